/-! ===== THE CLASS: a row of terms ===== -/
section GRD2
variable {g : zg_G} {n : zg_N}
theorem pw_castT {Y : zY} {d h x : Nat} {P : zP} {bc bs pc idx : Nat} {ls : List (Nat × Value)} {st : List Value} {f : zW} (hx : cTm g n h x f) (hcl : Cond.classLink Y.2.1 idx "LotBeliefs$Term" ∈ lw_all) (dd : decode Y.2.2.1 pc = .ok (.checkcast idx, 3)) (kk : PW Y d P bc bs (pc + 3) ls (.ref x :: st) g n) : PW Y d P bc bs pc ls (.ref x :: st) g n := by
  cases h with
  | zero => exact hx.elim
  | succ h =>
    obtain ⟨-, ⟨hs, -⟩ | ⟨hs, -⟩ | ⟨hs, -⟩⟩ := hx
    · exact pw_castY zc_X16 hs hcl q2706 dd kk
    · exact pw_castY zc_X17 hs hcl q2705 dd kk
    · exact pw_castY zc_X15 hs hcl q2707 dd kk
theorem get_midT {α : Type} (pre : List α) (k : α) (r : List α) : (pre ++ k :: r)[pre.length]? = some k := by rw [List.getElem?_append_right (Nat.le_refl _), Nat.sub_self]; rfl
theorem cFold_app (u : zW) : ∀ (p r : List (Nat × zW)), cFold u (p ++ r) = cFold (cFold u p) r
  | [], r => rfl
  | q :: p, r => cFold_app _ p r
theorem u_row {x F h : Nat} {f : zW} (hT : TS g n F h) (hs : zsh g x = some (.inl 12)) {LT LS : Nat} {xs ss : Nat → Nat} {u : zW} {fs : List (Nat × zW)} (b1 : zfr g x 0 = some LT) (b2 : zfr g x 1 = some LS) (b3 : cLs g LT (fs.length + 1) xs) (b4 : cLs g LS (fs.length + 1) ss) (b5 : zfi n LT 2 = nI (fs.length + 1)) (b6 : zfi n LS 2 = nI (fs.length + 1)) (b7 : fs.length ≤ 600)
    (b8 : cTm g n h (xs 0) u) (b9 : ∀ k q, fs[k]? = some q → cTm g n h (xs (k + 1)) q.2 ∧ ((q.1 = 2 ∧ ss (k + 1) = 271) ∨ (q.1 = 3 ∧ ss (k + 1) = 273) ∨ (q.1 = 4 ∧ ss (k + 1) = 270))) (b10 : f = cFold u fs) : PW zm_X15_of (2 * (h + 1) + 4) (zE (some (.int (f (fcA n F)))) g n) 0 0 0 [(0, .ref x), (1, .ref F)] [] g n := by
  refine pw_fz (fun hz => ?_)
  have z43 : zsh g 271 = some (.inl 19) ∧ zfi n 271 0 = 43 := ⟨(hz 271 (by decide) (by decide)).1, (hz 271 (by decide) (by decide)).2.2.2.1 0⟩
  have z45 : zsh g 273 = some (.inl 19) ∧ zfi n 273 0 = 45 := ⟨(hz 273 (by decide) (by decide)).1, (hz 273 (by decide) (by decide)).2.2.2.1 0⟩
  have z42 : zsh g 270 = some (.inl 19) ∧ zfi n 270 0 = 42 := ⟨(hz 270 (by decide) (by decide)).1, (hz 270 (by decide) (by decide)).2.2.2.1 0⟩
  have hlp : ∀ (r p : List (Nat × zW)), p ++ r = fs → PW zm_X15_of (2 * (h + 1) + 4) (zE (some (.int (f (fcA n F)))) g n) 0 0 18 [(0, .ref x), (1, .ref F), (2, .int (cFold u p (fcA n F))), (3, .int (nI (p.length + 1)))] [] g n := by
    intro r
    induction r with
    | nil =>
      intro p hp
      rw [List.append_nil] at hp
      have hpl : p.length = fs.length := by rw [hp]
      refine pw_iload_n dX15_of_18 3 rfl rfl ?_
      refine pw_aload_n dX15_of_19 0 rfl rfl ?_
      refine pw_getr 0 zc_X15 hs (by decide) q1526 (Or.inl ⟨_, rfl⟩) b1 dX15_of_20 ?_
      refine pw_callV0 zmM_J2_size rfl (lw_V q899 q675 q676 q129 q677) rfl b3.2.1 zc_J2 (j_size b3.2.1) (by omega) (Nat.le_refl _) (Nat.le_refl _) rfl (Nat.le_of_ble_eq_true rfl) (Nat.le_of_ble_eq_true rfl) dX15_of_23 zE.nx (zE_kk ?_)
      rw [b5, ← hpl]
      refine pw_icmp_ge_N 109 dX15_of_26 (by decide) (by omega) (by omega) (fun c_26 => ?_) (fun c_26 => ?_)
      · refine pw_iload_n dX15_of_109 2 rfl rfl ?_
        refine pw_iret rfl dX15_of_110 ?_
        exact ⟨by rw [b10, ← hp], rfl, rfl⟩
      · exact absurd c_26 (Nat.lt_irrefl _)
    | cons q r ih =>
      intro p hp
      have hln : fs.length = p.length + r.length + 1 := by rw [← hp]; simp only [List.length_append, List.length_cons]; omega
      have hq := b9 p.length q (by rw [← hp]; exact get_midT p q r)
      have hnext : PW zm_X15_of (2 * (h + 1) + 4) (zE (some (.int (f (fcA n F)))) g n) 0 0 18 [(0, .ref x), (1, .ref F), (2, .int (vB q.1 (cFold u p) q.2 (fcA n F))), (3, .int (nI (p.length + 1 + 1)))] [] g n := by
        have := ih (p ++ [q]) (by rw [List.append_assoc]; exact hp)
        rw [cFold_app, List.length_append] at this
        exact this
      have hsg : ∀ c, zsh g (ss (p.length + 1)) = some (.inl 19) → zfi n (ss (p.length + 1)) 0 = c → (c = 43 ∧ q.1 = 2) ∨ (c = 45 ∧ q.1 = 3) ∨ (c = 42 ∧ q.1 = 4) → PW zm_X15_of (2 * (h + 1) + 4) (zE (some (.int (f (fcA n F)))) g n) 0 0 18 [(0, .ref x), (1, .ref F), (2, .int (cFold u p (fcA n F))), (3, .int (nI (p.length + 1)))] [] g n := by
        intro c hc1 hc2 hc3
        have hj : p.length + 1 < fs.length + 1 := by omega
        rcases hc3 with ⟨rfl, e⟩ | ⟨rfl, e⟩ | ⟨rfl, e⟩
        · skip
          refine pw_iload_n dX15_of_18 3 rfl rfl ?_
          refine pw_aload_n dX15_of_19 0 rfl rfl ?_
          refine pw_getr 0 zc_X15 hs (by decide) q1526 (Or.inl ⟨_, rfl⟩) b1 dX15_of_20 ?_
          refine pw_callV0 zmM_J2_size rfl (lw_V q899 q675 q676 q129 q677) rfl b3.2.1 zc_J2 (j_size b3.2.1) (by omega) (Nat.le_refl _) (Nat.le_refl _) rfl (Nat.le_of_ble_eq_true rfl) (Nat.le_of_ble_eq_true rfl) dX15_of_23 zE.nx (zE_kk ?_)
          rw [b5, hln]
          refine pw_icmp_ge_N 109 dX15_of_26 (by decide) (by omega) (by omega) (fun c_26 => ?_) (fun c_26 => ?_)
          · exact absurd c_26 (by omega)
          · refine pw_aload_n dX15_of_29 0 rfl rfl ?_
            refine pw_getr 0 zc_X15 hs (by decide) q1526 (Or.inl ⟨_, rfl⟩) b1 dX15_of_30 ?_
            refine pw_iload_n dX15_of_33 3 rfl rfl ?_
            refine pw_callV1 zmM_J2_get rfl (lw_V q896 q679 q680 q129 q681) rfl b3.2.1 zc_J2 (j_get b3 b5 hj) (by omega) (Nat.le_refl _) (Nat.le_refl _) rfl (Nat.le_of_ble_eq_true rfl) (Nat.le_of_ble_eq_true rfl) dX15_of_34 zE.nx (zE_kk ?_)
            refine pw_castT hq.1 q897 dX15_of_37 ?_
            refine pw_aload_n dX15_of_40 1 rfl rfl ?_
            refine pw_of hT hq.1 (by omega) q898 (Nat.le_of_ble_eq_true rfl) dX15_of_41 ?_
            refine pw_istore (ls' := [(4, _), (0, _), (1, _), (2, _), (3, _)]) dX15_of_44 (by decide) rfl ?_
            refine pw_ls [1, 2, 3, 4, 0] (ls' := [(0, _), (1, _), (2, _), (3, _), (4, _)]) rfl ?_
            refine pw_aload_n dX15_of_46 0 rfl rfl ?_
            refine pw_getr 1 zc_X15 hs (by decide) q1527 (Or.inl ⟨_, rfl⟩) b2 dX15_of_47 ?_
            refine pw_iload_n dX15_of_50 3 rfl rfl ?_
            refine pw_callV1 zmM_J2_get rfl (lw_V q896 q679 q680 q129 q681) rfl b4.2.1 zc_J2 (j_get b4 b6 hj) (by omega) (Nat.le_refl _) (Nat.le_refl _) rfl (Nat.le_of_ble_eq_true rfl) (Nat.le_of_ble_eq_true rfl) dX15_of_51 zE.nx (zE_kk ?_)
            refine pw_castS zc_J17 hc1 q900 dX15_of_54 ?_
            refine pw_callV0 zmM_J17_intValue rfl (lw_V q901 q902 q903 q145 q904) rfl hc1 zc_J17 (j_intV hc1) (by omega) (Nat.le_refl _) (Nat.le_refl _) rfl (Nat.le_of_ble_eq_true rfl) (Nat.le_of_ble_eq_true rfl) dX15_of_57 zE.nx (zE_kk ?_)
            rw [hc2]
            refine pw_bipush (v := 43) dX15_of_60 (by decide) ?_
            refine pw_icmp_ne 72 dX15_of_62 (by decide) (fun c_62 => ?_) (fun c_62 => ?_)
            · exact absurd rfl c_62
            · refine pw_iload_n dX15_of_65 2 rfl rfl ?_
              refine pw_iload dX15_of_66 4 rfl ?_
              refine pw_iadd dX15_of_68 ?_
              refine pw_goto 102 dX15_of_69 (by decide) ?_
              refine pw_istore_n (ls' := [(2, _), (0, _), (1, _), (3, _), (4, _)]) dX15_of_102 rfl (by decide) rfl ?_
              refine pw_ls [1, 2, 0, 3, 4] (ls' := [(0, _), (1, _), (2, _), (3, _), (4, _)]) rfl ?_
              refine pw_iinc1 (j := 3) (ls' := [(3, _), (0, _), (1, _), (2, _), (4, _)]) dX15_of_103 rfl (by decide) rfl ?_
              refine pw_ls [1, 2, 3, 0, 4] (ls' := [(0, _), (1, _), (2, _), (3, _), (4, _)]) rfl ?_
              refine pw_goto 18 dX15_of_106 (by decide) ?_
              refine pw_ls [0, 1, 2, 3] (ls' := [(0, _), (1, _), (2, _), (3, _)]) rfl ?_
              rw [e] at hnext; exact hnext
        · skip
          refine pw_iload_n dX15_of_18 3 rfl rfl ?_
          refine pw_aload_n dX15_of_19 0 rfl rfl ?_
          refine pw_getr 0 zc_X15 hs (by decide) q1526 (Or.inl ⟨_, rfl⟩) b1 dX15_of_20 ?_
          refine pw_callV0 zmM_J2_size rfl (lw_V q899 q675 q676 q129 q677) rfl b3.2.1 zc_J2 (j_size b3.2.1) (by omega) (Nat.le_refl _) (Nat.le_refl _) rfl (Nat.le_of_ble_eq_true rfl) (Nat.le_of_ble_eq_true rfl) dX15_of_23 zE.nx (zE_kk ?_)
          rw [b5, hln]
          refine pw_icmp_ge_N 109 dX15_of_26 (by decide) (by omega) (by omega) (fun c_26 => ?_) (fun c_26 => ?_)
          · exact absurd c_26 (by omega)
          · refine pw_aload_n dX15_of_29 0 rfl rfl ?_
            refine pw_getr 0 zc_X15 hs (by decide) q1526 (Or.inl ⟨_, rfl⟩) b1 dX15_of_30 ?_
            refine pw_iload_n dX15_of_33 3 rfl rfl ?_
            refine pw_callV1 zmM_J2_get rfl (lw_V q896 q679 q680 q129 q681) rfl b3.2.1 zc_J2 (j_get b3 b5 hj) (by omega) (Nat.le_refl _) (Nat.le_refl _) rfl (Nat.le_of_ble_eq_true rfl) (Nat.le_of_ble_eq_true rfl) dX15_of_34 zE.nx (zE_kk ?_)
            refine pw_castT hq.1 q897 dX15_of_37 ?_
            refine pw_aload_n dX15_of_40 1 rfl rfl ?_
            refine pw_of hT hq.1 (by omega) q898 (Nat.le_of_ble_eq_true rfl) dX15_of_41 ?_
            refine pw_istore (ls' := [(4, _), (0, _), (1, _), (2, _), (3, _)]) dX15_of_44 (by decide) rfl ?_
            refine pw_ls [1, 2, 3, 4, 0] (ls' := [(0, _), (1, _), (2, _), (3, _), (4, _)]) rfl ?_
            refine pw_aload_n dX15_of_46 0 rfl rfl ?_
            refine pw_getr 1 zc_X15 hs (by decide) q1527 (Or.inl ⟨_, rfl⟩) b2 dX15_of_47 ?_
            refine pw_iload_n dX15_of_50 3 rfl rfl ?_
            refine pw_callV1 zmM_J2_get rfl (lw_V q896 q679 q680 q129 q681) rfl b4.2.1 zc_J2 (j_get b4 b6 hj) (by omega) (Nat.le_refl _) (Nat.le_refl _) rfl (Nat.le_of_ble_eq_true rfl) (Nat.le_of_ble_eq_true rfl) dX15_of_51 zE.nx (zE_kk ?_)
            refine pw_castS zc_J17 hc1 q900 dX15_of_54 ?_
            refine pw_callV0 zmM_J17_intValue rfl (lw_V q901 q902 q903 q145 q904) rfl hc1 zc_J17 (j_intV hc1) (by omega) (Nat.le_refl _) (Nat.le_refl _) rfl (Nat.le_of_ble_eq_true rfl) (Nat.le_of_ble_eq_true rfl) dX15_of_57 zE.nx (zE_kk ?_)
            rw [hc2]
            refine pw_bipush (v := 43) dX15_of_60 (by decide) ?_
            refine pw_icmp_ne 72 dX15_of_62 (by decide) (fun c_62 => ?_) (fun c_62 => ?_)
            · refine pw_aload_n dX15_of_72 0 rfl rfl ?_
              refine pw_getr 1 zc_X15 hs (by decide) q1527 (Or.inl ⟨_, rfl⟩) b2 dX15_of_73 ?_
              refine pw_iload_n dX15_of_76 3 rfl rfl ?_
              refine pw_callV1 zmM_J2_get rfl (lw_V q896 q679 q680 q129 q681) rfl b4.2.1 zc_J2 (j_get b4 b6 hj) (by omega) (Nat.le_refl _) (Nat.le_refl _) rfl (Nat.le_of_ble_eq_true rfl) (Nat.le_of_ble_eq_true rfl) dX15_of_77 zE.nx (zE_kk ?_)
              refine pw_castS zc_J17 hc1 q900 dX15_of_80 ?_
              refine pw_callV0 zmM_J17_intValue rfl (lw_V q901 q902 q903 q145 q904) rfl hc1 zc_J17 (j_intV hc1) (by omega) (Nat.le_refl _) (Nat.le_refl _) rfl (Nat.le_of_ble_eq_true rfl) (Nat.le_of_ble_eq_true rfl) dX15_of_83 zE.nx (zE_kk ?_)
              rw [hc2]
              refine pw_bipush (v := 45) dX15_of_86 (by decide) ?_
              refine pw_icmp_ne 98 dX15_of_88 (by decide) (fun c_88 => ?_) (fun c_88 => ?_)
              · exact absurd rfl c_88
              · refine pw_iload_n dX15_of_91 2 rfl rfl ?_
                refine pw_iload dX15_of_92 4 rfl ?_
                refine pw_isub dX15_of_94 ?_
                refine pw_goto 102 dX15_of_95 (by decide) ?_
                refine pw_istore_n (ls' := [(2, _), (0, _), (1, _), (3, _), (4, _)]) dX15_of_102 rfl (by decide) rfl ?_
                refine pw_ls [1, 2, 0, 3, 4] (ls' := [(0, _), (1, _), (2, _), (3, _), (4, _)]) rfl ?_
                refine pw_iinc1 (j := 3) (ls' := [(3, _), (0, _), (1, _), (2, _), (4, _)]) dX15_of_103 rfl (by decide) rfl ?_
                refine pw_ls [1, 2, 3, 0, 4] (ls' := [(0, _), (1, _), (2, _), (3, _), (4, _)]) rfl ?_
                refine pw_goto 18 dX15_of_106 (by decide) ?_
                refine pw_ls [0, 1, 2, 3] (ls' := [(0, _), (1, _), (2, _), (3, _)]) rfl ?_
                rw [e] at hnext; exact hnext
            · exact absurd c_62 (by decide)
        · skip
          refine pw_iload_n dX15_of_18 3 rfl rfl ?_
          refine pw_aload_n dX15_of_19 0 rfl rfl ?_
          refine pw_getr 0 zc_X15 hs (by decide) q1526 (Or.inl ⟨_, rfl⟩) b1 dX15_of_20 ?_
          refine pw_callV0 zmM_J2_size rfl (lw_V q899 q675 q676 q129 q677) rfl b3.2.1 zc_J2 (j_size b3.2.1) (by omega) (Nat.le_refl _) (Nat.le_refl _) rfl (Nat.le_of_ble_eq_true rfl) (Nat.le_of_ble_eq_true rfl) dX15_of_23 zE.nx (zE_kk ?_)
          rw [b5, hln]
          refine pw_icmp_ge_N 109 dX15_of_26 (by decide) (by omega) (by omega) (fun c_26 => ?_) (fun c_26 => ?_)
          · exact absurd c_26 (by omega)
          · refine pw_aload_n dX15_of_29 0 rfl rfl ?_
            refine pw_getr 0 zc_X15 hs (by decide) q1526 (Or.inl ⟨_, rfl⟩) b1 dX15_of_30 ?_
            refine pw_iload_n dX15_of_33 3 rfl rfl ?_
            refine pw_callV1 zmM_J2_get rfl (lw_V q896 q679 q680 q129 q681) rfl b3.2.1 zc_J2 (j_get b3 b5 hj) (by omega) (Nat.le_refl _) (Nat.le_refl _) rfl (Nat.le_of_ble_eq_true rfl) (Nat.le_of_ble_eq_true rfl) dX15_of_34 zE.nx (zE_kk ?_)
            refine pw_castT hq.1 q897 dX15_of_37 ?_
            refine pw_aload_n dX15_of_40 1 rfl rfl ?_
            refine pw_of hT hq.1 (by omega) q898 (Nat.le_of_ble_eq_true rfl) dX15_of_41 ?_
            refine pw_istore (ls' := [(4, _), (0, _), (1, _), (2, _), (3, _)]) dX15_of_44 (by decide) rfl ?_
            refine pw_ls [1, 2, 3, 4, 0] (ls' := [(0, _), (1, _), (2, _), (3, _), (4, _)]) rfl ?_
            refine pw_aload_n dX15_of_46 0 rfl rfl ?_
            refine pw_getr 1 zc_X15 hs (by decide) q1527 (Or.inl ⟨_, rfl⟩) b2 dX15_of_47 ?_
            refine pw_iload_n dX15_of_50 3 rfl rfl ?_
            refine pw_callV1 zmM_J2_get rfl (lw_V q896 q679 q680 q129 q681) rfl b4.2.1 zc_J2 (j_get b4 b6 hj) (by omega) (Nat.le_refl _) (Nat.le_refl _) rfl (Nat.le_of_ble_eq_true rfl) (Nat.le_of_ble_eq_true rfl) dX15_of_51 zE.nx (zE_kk ?_)
            refine pw_castS zc_J17 hc1 q900 dX15_of_54 ?_
            refine pw_callV0 zmM_J17_intValue rfl (lw_V q901 q902 q903 q145 q904) rfl hc1 zc_J17 (j_intV hc1) (by omega) (Nat.le_refl _) (Nat.le_refl _) rfl (Nat.le_of_ble_eq_true rfl) (Nat.le_of_ble_eq_true rfl) dX15_of_57 zE.nx (zE_kk ?_)
            rw [hc2]
            refine pw_bipush (v := 43) dX15_of_60 (by decide) ?_
            refine pw_icmp_ne 72 dX15_of_62 (by decide) (fun c_62 => ?_) (fun c_62 => ?_)
            · refine pw_aload_n dX15_of_72 0 rfl rfl ?_
              refine pw_getr 1 zc_X15 hs (by decide) q1527 (Or.inl ⟨_, rfl⟩) b2 dX15_of_73 ?_
              refine pw_iload_n dX15_of_76 3 rfl rfl ?_
              refine pw_callV1 zmM_J2_get rfl (lw_V q896 q679 q680 q129 q681) rfl b4.2.1 zc_J2 (j_get b4 b6 hj) (by omega) (Nat.le_refl _) (Nat.le_refl _) rfl (Nat.le_of_ble_eq_true rfl) (Nat.le_of_ble_eq_true rfl) dX15_of_77 zE.nx (zE_kk ?_)
              refine pw_castS zc_J17 hc1 q900 dX15_of_80 ?_
              refine pw_callV0 zmM_J17_intValue rfl (lw_V q901 q902 q903 q145 q904) rfl hc1 zc_J17 (j_intV hc1) (by omega) (Nat.le_refl _) (Nat.le_refl _) rfl (Nat.le_of_ble_eq_true rfl) (Nat.le_of_ble_eq_true rfl) dX15_of_83 zE.nx (zE_kk ?_)
              rw [hc2]
              refine pw_bipush (v := 45) dX15_of_86 (by decide) ?_
              refine pw_icmp_ne 98 dX15_of_88 (by decide) (fun c_88 => ?_) (fun c_88 => ?_)
              · refine pw_iload_n dX15_of_98 2 rfl rfl ?_
                refine pw_iload dX15_of_99 4 rfl ?_
                refine pw_imul dX15_of_101 ?_
                refine pw_istore_n (ls' := [(2, _), (0, _), (1, _), (3, _), (4, _)]) dX15_of_102 rfl (by decide) rfl ?_
                refine pw_ls [1, 2, 0, 3, 4] (ls' := [(0, _), (1, _), (2, _), (3, _), (4, _)]) rfl ?_
                refine pw_iinc1 (j := 3) (ls' := [(3, _), (0, _), (1, _), (2, _), (4, _)]) dX15_of_103 rfl (by decide) rfl ?_
                refine pw_ls [1, 2, 3, 0, 4] (ls' := [(0, _), (1, _), (2, _), (3, _), (4, _)]) rfl ?_
                refine pw_goto 18 dX15_of_106 (by decide) ?_
                refine pw_ls [0, 1, 2, 3] (ls' := [(0, _), (1, _), (2, _), (3, _)]) rfl ?_
                rw [e] at hnext; exact hnext
              · exact absurd c_88 (by decide)
            · exact absurd c_62 (by decide)
      rcases hq.2 with ⟨e1, e2⟩ | ⟨e1, e2⟩ | ⟨e1, e2⟩
      · exact hsg 43 (by rw [e2]; exact z43.1) (by rw [e2]; exact z43.2) (Or.inl ⟨rfl, e1⟩)
      · exact hsg 45 (by rw [e2]; exact z45.1) (by rw [e2]; exact z45.2) (Or.inr (Or.inl ⟨rfl, e1⟩))
      · exact hsg 42 (by rw [e2]; exact z42.1) (by rw [e2]; exact z42.2) (Or.inr (Or.inr ⟨rfl, e1⟩))
  refine pw_aload_n dX15_of_0 0 rfl rfl ?_
  refine pw_getr 0 zc_X15 hs (by decide) q1526 (Or.inl ⟨_, rfl⟩) b1 dX15_of_1 ?_
  refine pw_iconst (v := 0) dX15_of_4 (by decide) ?_
  refine pw_callV1 zmM_J2_get rfl (lw_V q896 q679 q680 q129 q681) rfl b3.2.1 zc_J2 (j_get b3 b5 (Nat.succ_pos _)) (by omega) (Nat.le_refl _) (Nat.le_refl _) rfl (Nat.le_of_ble_eq_true rfl) (Nat.le_of_ble_eq_true rfl) dX15_of_5 zE.nx (zE_kk ?_)
  refine pw_castT b8 q897 dX15_of_8 ?_
  refine pw_aload_n dX15_of_11 1 rfl rfl ?_
  refine pw_of hT b8 (by omega) q898 (Nat.le_of_ble_eq_true rfl) dX15_of_12 ?_
  refine pw_istore_n (ls' := [(2, _), (0, _), (1, _)]) dX15_of_15 rfl (by decide) rfl ?_
  refine pw_ls [1, 2, 0] (ls' := [(0, _), (1, _), (2, _)]) rfl ?_
  refine pw_iconst (v := 1) dX15_of_16 (by decide) ?_
  refine pw_istore_n (ls' := [(3, _), (0, _), (1, _), (2, _)]) dX15_of_17 rfl (by decide) rfl ?_
  refine pw_ls [1, 2, 3, 0] (ls' := [(0, _), (1, _), (2, _), (3, _)]) rfl ?_
  exact hlp fs [] rfl
theorem TS_all {F : Nat} (hF : zsh g F = some (.inr (0, 10))) : ∀ h, TS g n F h
  | 0, _, _, hx => hx.elim
  | h + 1, x, f, hx => by
    obtain ⟨-, ⟨hs, k, hk, rfl⟩ | ⟨hs, k, hk10, hk, rfl⟩ | ⟨hs, LT, LS, xs, ss, u, fs, b1, b2, b3, b4, b5, b6, b7, b8, b9, b10⟩⟩ := hx
    · exact Or.inl ⟨hs, u_plain _ hs hk⟩
    · exact Or.inr (Or.inl ⟨hs, u_fact _ hs hk hk10 hF⟩)
    · exact Or.inr (Or.inr ⟨hs, u_row (TS_all hF h) hs b1 b2 b3 b4 b5 b6 b7 b8 b9 b10⟩)
end GRD2

