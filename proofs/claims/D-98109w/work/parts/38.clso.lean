/-! ===== THE CLASS: who falls by the tongue ===== -/
section GRD6
variable {g : zg_G} {n : zg_N} {w : cW} {S : zS}
theorem u_tongue {F : Nat} (hF : zsh g F = some (.inr (0, 10))) (hU : CT g w) (hV : CVt g n w (sT S)) (hW : WF S) : PW zm_X3_falls 50 (zE (some (.int (nI (spTo (fcA n F) (sT S))))) g n) 0 0 0 [(0, .ref (wT w)), (1, .ref F)] [] g n := by
  obtain ⟨v1, v2, v3⟩ := hV
  have hlen := hW.tl
  have hlp : ∀ (r p : List (Nat × zG)), p ++ r = sT S → spTo (fcA n F) r = spTo (fcA n F) (sT S) → PW zm_X3_falls 50 (zE (some (.int (nI (spTo (fcA n F) (sT S))))) g n) 0 0 2 [(0, .ref (wT w)), (1, .ref F), (2, .int (nI p.length))] [] g n := by
    intro r
    induction r with
    | nil =>
      intro p hp hR
      rw [List.append_nil] at hp
      have hpl : p.length = (sT S).length := by rw [hp]
      refine pw_iload_n dX3_falls_2 2 rfl rfl ?_
      refine pw_aload_n dX3_falls_3 0 rfl rfl ?_
      refine pw_getr 0 zc_X3 (cs_tongue hU) (by decide) q571 (Or.inl ⟨_, rfl⟩) (cr_grounds hU) dX3_falls_4 ?_
      refine pw_callV0 zmM_J2_size rfl (lw_V q875 q675 q676 q129 q677) rfl (cs_grounds hU) zc_J2 (j_size (cs_grounds hU)) (by decide) (Nat.le_refl _) (Nat.le_refl _) rfl (Nat.le_of_ble_eq_true rfl) (Nat.le_of_ble_eq_true rfl) dX3_falls_7 zE.nx (zE_kk ?_)
      rw [v2, ← hpl]
      refine pw_icmp_ge_N 44 dX3_falls_10 (by decide) (by omega) (by omega) (fun c_10 => ?_) (fun c_10 => ?_)
      · refine pw_iconst (v := 0) dX3_falls_44 (by decide) ?_
        refine pw_iret rfl dX3_falls_45 ?_
        exact ⟨by rw [← hR]; rfl, rfl, rfl⟩
      · exact absurd c_10 (Nat.lt_irrefl _)
    | cons q r ih =>
      intro p hp hR
      have hln : (sT S).length = p.length + r.length + 1 := by rw [← hp]; simp only [List.length_append, List.length_cons]; omega
      obtain ⟨q1, f, q2, q3⟩ := v3 p.length q (by rw [← hp]; exact get_midT p q r)
      have hk : p.length < wGs w := by rw [v1]; omega
      refine pw_iload_n dX3_falls_2 2 rfl rfl ?_
      refine pw_aload_n dX3_falls_3 0 rfl rfl ?_
      refine pw_getr 0 zc_X3 (cs_tongue hU) (by decide) q571 (Or.inl ⟨_, rfl⟩) (cr_grounds hU) dX3_falls_4 ?_
      refine pw_callV0 zmM_J2_size rfl (lw_V q875 q675 q676 q129 q677) rfl (cs_grounds hU) zc_J2 (j_size (cs_grounds hU)) (by decide) (Nat.le_refl _) (Nat.le_refl _) rfl (Nat.le_of_ble_eq_true rfl) (Nat.le_of_ble_eq_true rfl) dX3_falls_7 zE.nx (zE_kk ?_)
      rw [v2, hln]
      refine pw_icmp_ge_N 44 dX3_falls_10 (by decide) (by omega) (by omega) (fun c_10 => ?_) (fun c_10 => ?_)
      · exact absurd c_10 (by omega)
      · refine pw_aload_n dX3_falls_13 0 rfl rfl ?_
        refine pw_getr 0 zc_X3 (cs_tongue hU) (by decide) q571 (Or.inl ⟨_, rfl⟩) (cr_grounds hU) dX3_falls_14 ?_
        refine pw_iload_n dX3_falls_17 2 rfl rfl ?_
        refine pw_callV1 zmM_J2_get rfl (lw_V q876 q679 q680 q129 q681) rfl (cs_grounds hU) zc_J2 (j_get hU.ls (by rw [v2, v1]) hk) (by decide) (Nat.le_refl _) (Nat.le_refl _) rfl (Nat.le_of_ble_eq_true rfl) (Nat.le_of_ble_eq_true rfl) dX3_falls_18 zE.nx (zE_kk ?_)
        refine pw_castG q2 q877 dX3_falls_21 ?_
        refine pw_aload_n dX3_falls_24 1 rfl rfl ?_
        refine pw_isSo (GS_all hF 20) q2 (by decide) q878 (Nat.le_of_ble_eq_true rfl) dX3_falls_25 ?_
        rw [q3]
        refine pw_if_eq 38 dX3_falls_28 (by decide) (fun c_28 => ?_) (fun c_28 => ?_)
        · refine pw_iinc1 (j := 2) (ls' := [(2, _), (0, _), (1, _)]) dX3_falls_38 rfl (by decide) rfl ?_
          refine pw_ls [1, 2, 0] (ls' := [(0, _), (1, _), (2, _)]) rfl ?_
          refine pw_goto 2 dX3_falls_41 (by decide) ?_
          have hf : ¬ q.2 (fcA n F) = true := fun h => absurd (c_28.symm.trans (if_pos h)) (by decide)
          have := ih (p ++ [q]) (by rw [List.append_assoc]; exact hp) (by rw [← hR, spTo, if_neg hf])
          rw [List.length_append] at this
          exact this
        · refine pw_aload_n dX3_falls_31 0 rfl rfl ?_
          refine pw_getr 1 zc_X3 (cs_tongue hU) (by decide) q574 (Or.inr ⟨_, rfl⟩) (cr_who hU) dX3_falls_32 ?_
          refine pw_iload_n dX3_falls_35 2 rfl rfl ?_
          refine pw_iald p.length rfl (cs_who hU) (by omega) (by decide) dX3_falls_36 ?_
          rw [q1]
          refine pw_iret rfl dX3_falls_37 ?_
          have ht : q.2 (fcA n F) = true := Decidable.byContradiction (fun h => c_28 (if_neg h))
          exact ⟨by rw [← hR, spTo, if_pos ht], rfl, rfl⟩
  refine pw_iconst (v := 0) dX3_falls_0 (by decide) ?_
  refine pw_istore_n (ls' := [(2, _), (0, _), (1, _)]) dX3_falls_1 rfl (by decide) rfl ?_
  refine pw_ls [1, 2, 0] (ls' := [(0, _), (1, _), (2, _)]) rfl ?_
  exact hlp (sT S) [] rfl rfl
end GRD6

