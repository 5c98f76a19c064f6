/-! ===== THE CLASS: a ground of some ===== -/
section GRD5
variable {g : zg_G} {n : zg_N}
theorem pw_castG {Y : zY} {d h x : Nat} {P : zP} {bc bs pc idx : Nat} {ls : List (Nat × Value)} {st : List Value} {f : zW} (hx : cGr g n h x f) (hcl : Cond.classLink Y.2.1 idx "LotBeliefs$Ground" ∈ lw_all) (dd : decode Y.2.2.1 pc = .ok (.checkcast idx, 3)) (kk : PW Y d P bc bs (pc + 3) ls (.ref x :: st) g n) : PW Y d P bc bs pc ls (.ref x :: st) g n := by
  cases h with
  | zero => exact hx.elim
  | succ h =>
    obtain ⟨-, ⟨hs, -⟩ | ⟨hs, -⟩ | ⟨hs, -⟩⟩ := hx
    · exact pw_castY zc_X12 hs hcl q2704 dd kk
    · exact pw_castY zc_X13 hs hcl q2703 dd kk
    · exact pw_castY zc_X18 hs hcl q2702 dd kk
end GRD5

