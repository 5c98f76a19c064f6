/-! ===== THE CLASS: a ground that is not, or is of some ===== -/
section GRD4
variable {g : zg_G} {n : zg_N}
theorem ite01 (b : Prop) [Decidable b] : (if b then (1 : Int32) else 0) = 0 ∨ (if b then (1 : Int32) else 0) = 1 := by by_cases h : b <;> simp [h]
theorem cGr01 : ∀ {h x : Nat} {f : zW}, cGr g n h x f → ∀ fc, f fc = 0 ∨ f fc = 1
  | 0, _, _, h, _ => h.elim
  | h + 1, x, f, hh, fc => by
    obtain ⟨-, ⟨-, al, LT, xs, fs, -, -, -, -, -, -, b7⟩ | ⟨-, a, u, -, b2, b3⟩ | ⟨-, a, b, c, u, v, -, -, -, b4, -, -, b7⟩⟩ := hh
    · rw [b7]
      exact ite01 _
    · rw [b3]
      show 1 - u fc = 0 ∨ 1 - u fc = 1
      rcases cGr01 b2 fc with e | e <;> rw [e] <;> decide
    · rw [b7]
      rcases b4 with rfl | rfl | rfl
      · show zb (u fc < v fc) = 0 ∨ zb (u fc < v fc) = 1
        unfold zb; split <;> simp
      · show zb (v fc < u fc) = 0 ∨ zb (v fc < u fc) = 1
        unfold zb; split <;> simp
      · show zb (u fc = v fc) = 0 ∨ zb (u fc = v fc) = 1
        unfold zb; split <;> simp
theorem u_never {x F h a : Nat} {u : zW} (hT : GS g n F h) (hs : zsh g x = some (.inl 11)) (b1 : zfr g x 0 = some a) (b2 : cGr g n h a u) : PW zm_X13_isSo (2 * (h + 1) + 4) (zE (some (.int (vN u (fcA n F)))) g n) 0 0 0 [(0, .ref x), (1, .ref F)] [] g n := by
  have h01 := cGr01 b2 (fcA n F)
  refine pw_aload_n dX13_isSo_0 0 rfl rfl ?_
  refine pw_getr 0 zc_X13 hs (by decide) q1431 (Or.inl ⟨_, rfl⟩) b1 dX13_isSo_1 ?_
  refine pw_aload_n dX13_isSo_4 1 rfl rfl ?_
  refine pw_isSo hT b2 (by omega) q908 (Nat.le_of_ble_eq_true rfl) dX13_isSo_5 ?_
  refine pw_if_ne 15 dX13_isSo_8 (by decide) (fun c_8 => ?_) (fun c_8 => ?_)
  · refine pw_iconst (v := 0) dX13_isSo_15 (by decide) ?_
    refine pw_zret _ rfl rfl dX13_isSo_16 ?_
    exact ⟨by rw [show vN u (fcA n F) = 1 - u (fcA n F) from rfl, h01.resolve_left c_8]; rfl, rfl, rfl⟩
  · refine pw_iconst (v := 1) dX13_isSo_11 (by decide) ?_
    refine pw_goto 16 dX13_isSo_12 (by decide) ?_
    refine pw_zret _ rfl rfl dX13_isSo_16 ?_
    exact ⟨by rw [show vN u (fcA n F) = 1 - u (fcA n F) from rfl, c_8]; rfl, rfl, rfl⟩
end GRD4

