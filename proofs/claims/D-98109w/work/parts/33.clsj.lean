/-! ===== THE CLASS: terms and grounds, asked ===== -/
abbrev zm_X12_isSo : zY := (yX12_isSo, RX12, cX12_isSo, 3, (some (.boolean)), [])
theorem zmM_X12_isSo : zM zm_X12_isSo 1 := ⟨by decide +kernel, rfl, by decide +kernel, by decide +kernel, by decide +kernel, by decide⟩
abbrev zm_X12_init : zY := (yX12_init, RX12, cX12_init, 2, none, [])
theorem zmM_X12_init : zM zm_X12_init 1 := ⟨by decide +kernel, rfl, by decide +kernel, by decide +kernel, by decide +kernel, by decide⟩
abbrev zm_X13_isSo : zY := (yX13_isSo, RX13, cX13_isSo, 2, (some (.boolean)), [])
theorem zmM_X13_isSo : zM zm_X13_isSo 1 := ⟨by decide +kernel, rfl, by decide +kernel, by decide +kernel, by decide +kernel, by decide⟩
abbrev zm_X13_init : zY := (yX13_init, RX13, cX13_init, 2, none, [])
theorem zmM_X13_init : zM zm_X13_init 1 := ⟨by decide +kernel, rfl, by decide +kernel, by decide +kernel, by decide +kernel, by decide⟩
abbrev zm_X15_of : zY := (yX15_of, RX15, cX15_of, 5, (some (.int)), [])
theorem zmM_X15_of : zM zm_X15_of 1 := ⟨by decide +kernel, rfl, by decide +kernel, by decide +kernel, by decide +kernel, by decide⟩
abbrev zm_X15_init : zY := (yX15_init, RX15, cX15_init, 2, none, [])
theorem zmM_X15_init : zM zm_X15_init 1 := ⟨by decide +kernel, rfl, by decide +kernel, by decide +kernel, by decide +kernel, by decide⟩
abbrev zm_X15_add : zY := (yX15_add, RX15, cX15_add, 3, none, [])
theorem zmM_X15_add : zM zm_X15_add 2 := ⟨by decide +kernel, rfl, by decide +kernel, by decide +kernel, by decide +kernel, by decide⟩
abbrev zm_X16_of : zY := (yX16_of, RX16, cX16_of, 2, (some (.int)), [])
theorem zmM_X16_of : zM zm_X16_of 1 := ⟨by decide +kernel, rfl, by decide +kernel, by decide +kernel, by decide +kernel, by decide⟩
abbrev zm_X16_init : zY := (yX16_init, RX16, cX16_init, 2, none, [])
theorem zmM_X16_init : zM zm_X16_init 1 := ⟨by decide +kernel, rfl, by decide +kernel, by decide +kernel, by decide +kernel, by decide⟩
abbrev zm_X17_of : zY := (yX17_of, RX17, cX17_of, 2, (some (.int)), [])
theorem zmM_X17_of : zM zm_X17_of 1 := ⟨by decide +kernel, rfl, by decide +kernel, by decide +kernel, by decide +kernel, by decide⟩
abbrev zm_X17_init : zY := (yX17_init, RX17, cX17_init, 2, none, [])
theorem zmM_X17_init : zM zm_X17_init 1 := ⟨by decide +kernel, rfl, by decide +kernel, by decide +kernel, by decide +kernel, by decide⟩
abbrev zm_X18_isSo : zY := (yX18_isSo, RX18, cX18_isSo, 4, (some (.boolean)), [])
theorem zmM_X18_isSo : zM zm_X18_isSo 1 := ⟨by decide +kernel, rfl, by decide +kernel, by decide +kernel, by decide +kernel, by decide⟩
abbrev zm_X18_init : zY := (yX18_init, RX18, cX18_init, 4, none, [])
theorem zmM_X18_init : zM zm_X18_init 3 := ⟨by decide +kernel, rfl, by decide +kernel, by decide +kernel, by decide +kernel, by decide⟩
theorem lw_U {own : String} {idx : Nat} {C owner : String} {x y : MethodName} {b : ByteArray} {L : Nat} {r : Option FieldType} (h1 : Cond.methodLink own idx x ∈ lw_all) (h2 : Cond.sameMethod x.cls owner x.name x.desc ∈ lw_all) (h3 : Cond.selects C x y ∈ lw_all) (h4 : Cond.instanceMethod y ∈ lw_all) (h5 : Cond.initialized y.cls ∈ lw_all) (h6 : Cond.code y b L r ∈ lw_all) : GoodIn lw_all (va_wsU own idx C owner x y (ws_ y b L r)) := by
  refine lw_app ?_ (lw_meth h6)
  intro w hw
  simp only [List.mem_cons, List.not_mem_nil, or_false] at hw
  rcases hw with e | e | e | e | e
  · rw [e]; exact h1
  · rw [e]; exact h2
  · rw [e]; exact h3
  · rw [e]; exact h4
  · rw [e]; exact h5
/-- the facts, in the array at F -/
abbrev fcA (n : zg_N) (F : Nat) : Nat → Int32 := fun k => zai n F k
section GRD
variable {g : zg_G} {n : zg_N}
theorem j_intV {a : Nat} (hs : zsh g a = some (.inl 19)) : PW zm_J17_intValue 1 (zE (some (.int (zfi n a 0))) g n) 0 0 0 [(0, .ref a)] [] g n := by
  refine pw_aload_n dJ17_intValue_0 0 rfl rfl ?_
  refine pw_geti 0 zc_J17 hs (by decide) q1521 (Or.inl rfl) dJ17_intValue_1 ?_
  refine pw_iret rfl dJ17_intValue_4 ?_
  exact ⟨rfl, rfl, rfl⟩
theorem u_plain {x k F : Nat} (d : Nat) (hs : zsh g x = some (.inl 13)) (hk : zfi n x 0 = nI k) : PW zm_X16_of d (zE (some (.int (vK k (fcA n F)))) g n) 0 0 0 [(0, .ref x), (1, .ref F)] [] g n := by
  refine pw_aload_n dX16_of_0 0 rfl rfl ?_
  refine pw_geti 0 zc_X16 hs (by decide) q1467 (Or.inl rfl) dX16_of_1 ?_
  rw [hk]
  refine pw_iret rfl dX16_of_4 ?_
  exact ⟨rfl, rfl, rfl⟩
theorem u_fact {x k F : Nat} (d : Nat) (hs : zsh g x = some (.inl 14)) (hk : zfi n x 0 = nI k) (hk10 : k < 10) (hF : zsh g F = some (.inr (0, 10))) : PW zm_X17_of d (zE (some (.int (vF k (fcA n F)))) g n) 0 0 0 [(0, .ref x), (1, .ref F)] [] g n := by
  refine pw_aload_n dX17_of_0 1 rfl rfl ?_
  refine pw_aload_n dX17_of_1 0 rfl rfl ?_
  refine pw_geti 0 zc_X17 hs (by decide) q1491 (Or.inl rfl) dX17_of_2 ?_
  rw [hk]
  refine pw_iald k rfl hF (by omega) (by decide) dX17_of_5 ?_
  refine pw_iret rfl dX17_of_6 ?_
  exact ⟨rfl, rfl, rfl⟩
/-- what asking a term gives -/
def TS (g : zg_G) (n : zg_N) (F h : Nat) : Prop := ∀ x f, cTm g n h x f → (zsh g x = some (.inl 13) ∧ PW zm_X16_of (2 * h + 4) (zE (some (.int (f (fcA n F)))) g n) 0 0 0 [(0, .ref x), (1, .ref F)] [] g n) ∨ (zsh g x = some (.inl 14) ∧ PW zm_X17_of (2 * h + 4) (zE (some (.int (f (fcA n F)))) g n) 0 0 0 [(0, .ref x), (1, .ref F)] [] g n) ∨ (zsh g x = some (.inl 12) ∧ PW zm_X15_of (2 * h + 4) (zE (some (.int (f (fcA n F)))) g n) 0 0 0 [(0, .ref x), (1, .ref F)] [] g n)
abbrev yTof : MethodName := ⟨"LotBeliefs$Term", "of", "([I)I"⟩
/-- a call of it -/
theorem pw_of {Y : zY} {d h F x : Nat} {P : zP} {bc bs pc idx : Nat} {ls : List (Nat × Value)} {st : List Value} {f : zW} (hT : TS g n F h) (hx : cTm g n h x f) (hd : 2 * h + 5 ≤ d) (hl : Cond.methodLink Y.2.1 idx yTof ∈ lw_all) (hst : (st.map fun v => v.category).sum ≤ 8) (dd : decode Y.2.2.1 pc = .ok (.invokevirtual idx, 3))
    (kk : PW Y d P bc bs (pc + 3) ls (.int (f (fcA n F)) :: st) g n) : PW Y d P bc bs pc ls (.ref F :: .ref x :: st) g n := by
  rcases hT x f hx with ⟨hs, hc⟩ | ⟨hs, hc⟩ | ⟨hs, hc⟩
  · exact pw_callA1 zmM_X16_of rfl (x := yTof) (owner := "LotBeliefs$Term") (lw_U hl q886 q890 (by decide +kernel) (by decide +kernel) (by decide +kernel)) q885 (by decide +kernel) hs zc_X16 hc (by omega) (Nat.le_refl _) (Nat.le_refl _) rfl (Nat.le_of_ble_eq_true rfl) hst dd zE.nx (zE_kk kk)
  · exact pw_callA1 zmM_X17_of rfl (x := yTof) (owner := "LotBeliefs$Term") (lw_U hl q886 q887 (by decide +kernel) (by decide +kernel) (by decide +kernel)) q885 (by decide +kernel) hs zc_X17 hc (by omega) (Nat.le_refl _) (Nat.le_refl _) rfl (Nat.le_of_ble_eq_true rfl) hst dd zE.nx (zE_kk kk)
  · exact pw_callA1 zmM_X15_of rfl (x := yTof) (owner := "LotBeliefs$Term") (lw_U hl q886 q893 (by decide +kernel) (by decide +kernel) (by decide +kernel)) q885 (by decide +kernel) hs zc_X15 hc (by omega) (Nat.le_refl _) (Nat.le_refl _) rfl (Nat.le_of_ble_eq_true rfl) hst dd zE.nx (zE_kk kk)
end GRD

