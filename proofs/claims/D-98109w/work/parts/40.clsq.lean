/-! ===== THE CLASS: a ground asks the ten facts only ===== -/
section GRD9
variable {g : zg_G} {n : zg_N}
theorem cFold_loc {fc fd : Nat → Int32} : ∀ (fs : List (Nat × zW)) (u : zW), u fc = u fd → (∀ q ∈ fs, q.2 fc = q.2 fd) → cFold u fs fc = cFold u fs fd
  | [], _, h, _ => h
  | q :: r, u, h, hq => cFold_loc r (vB q.1 u q.2) (by show tBy q.1 (u fc) (q.2 fc) = tBy q.1 (u fd) (q.2 fd); rw [h, hq q List.mem_cons_self]) (fun z hz => hq z (List.mem_cons_of_mem _ hz))
theorem cTm_loc {fc fd : Nat → Int32} (he : ∀ k, k < 10 → fc k = fd k) : ∀ {h x : Nat} {f : zW}, cTm g n h x f → f fc = f fd
  | 0, _, _, h => h.elim
  | h + 1, x, f, hh => by
    obtain ⟨-, ⟨-, k, -, rfl⟩ | ⟨-, k, hk, -, rfl⟩ | ⟨-, LT, LS, xs, ss, u, fs, -, -, -, -, -, -, -, b8, b9, rfl⟩⟩ := hh
    · rfl
    · exact he k hk
    · refine cFold_loc fs u (cTm_loc he b8) (fun q hq => ?_)
      obtain ⟨k, hk⟩ := List.getElem?_of_mem hq
      exact cTm_loc he (b9 k q hk).1
theorem cGr_loc {fc fd : Nat → Int32} (he : ∀ k, k < 10 → fc k = fd k) : ∀ {h x : Nat} {f : zW}, cGr g n h x f → f fc = f fd
  | 0, _, _, h => h.elim
  | h + 1, x, f, hh => by
    obtain ⟨-, ⟨-, al, LT, xs, fs, -, -, -, -, -, b6, rfl⟩ | ⟨-, a, u, -, b2, rfl⟩ | ⟨-, a, b, c, u, v, -, -, -, -, b5, b6, rfl⟩⟩ := hh
    · have hq : ∀ q ∈ fs, q fc = q fd := fun q hq => by
        obtain ⟨k, hk⟩ := List.getElem?_of_mem hq
        exact cGr_loc he (b6 k q hk)
      have e1 : fs.all (fun q => decide (q fc = 1)) = fs.all (fun q => decide (q fd = 1)) := by
        rw [Bool.eq_iff_iff, List.all_eq_true, List.all_eq_true]
        exact ⟨fun h q hm => by rw [← hq q hm]; exact h q hm, fun h q hm => by rw [hq q hm]; exact h q hm⟩
      have e2 : fs.any (fun q => decide (q fc = 1)) = fs.any (fun q => decide (q fd = 1)) := by
        rw [Bool.eq_iff_iff, List.any_eq_true, List.any_eq_true]
        exact ⟨fun ⟨q, hm, h⟩ => ⟨q, hm, by rw [← hq q hm]; exact h⟩, fun ⟨q, hm, h⟩ => ⟨q, hm, by rw [hq q hm]; exact h⟩⟩
      show (if (if al = true then fs.all (fun q => decide (q fc = 1)) else fs.any (fun q => decide (q fc = 1))) = true then (1 : Int32) else 0) = (if (if al = true then fs.all (fun q => decide (q fd = 1)) else fs.any (fun q => decide (q fd = 1))) = true then (1 : Int32) else 0)
      rw [e1, e2]
    · show 1 - u fc = 1 - u fd
      rw [cGr_loc he b2]
    · show tBy (pHow c) (u fc) (v fc) = tBy (pHow c) (u fd) (v fd)
      rw [cTm_loc he b5, cTm_loc he b6]
end GRD9

