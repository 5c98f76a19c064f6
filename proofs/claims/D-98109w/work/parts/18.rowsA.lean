/-! ===== rows for the class: statics, Strings, casts, reference arrays, copies, throws, catches ===== -/
section PWZ
variable {Y : zY} {d : Nat} {P : zP} {bc bs pc : Nat} {ls : List (Nat × Value)} {st : List Value} {g : zg_G} {n : zg_N}
theorem pw_nx (k : (zK ≤ znx g ∧ ∀ a, zsh g a ≠ none → a < znx g) → PW Y d P bc bs pc ls st g n) : PW Y d P bc bs pc ls st g n := by
  intro p l e R s m args below meth c D fz N0 C H locs cells slots lr V
  exact k ⟨V.1.1, V.1.2.2.1⟩ p l e R s m args below meth c D fz N0 C H locs cells slots lr V
theorem pw_gets {C9 n9 d9 : String} {v : Value} {idx : Nat} (hz : (C9, n9, d9, v) ∈ zStl) (hlink : Cond.fieldLink Y.2.1 idx C9 n9 d9 ∈ lw_all) (dd : decode Y.2.2.1 pc = .ok (.getstatic idx, 3)) (kk : PW Y d P bc bs (pc + 3) ls (v :: st) g n) : PW Y d P bc bs pc ls st g n := by
  intro p l e R s m args below meth c D fz N0 C H locs cells slots lr V
  exact va_gets C.1 C.2.1 (C.env.2.2.2.1.1 _ hz) V.2.1 C.own (C.hts _ hlink) (fun _ h => h) dd (kk p l e R s m args below meth c D fz N0 C H locs cells slots lr V)
theorem pw_getsN {C9 n9 d9 host : String} {v : Value} {idx : Nat} (hz : (C9, n9, d9, v) ∈ zStl) (hlink : Cond.fieldLinkNest Y.2.1 idx C9 n9 d9 host ∈ lw_tbl) (dd : decode Y.2.2.1 pc = .ok (.getstatic idx, 3)) (kk : PW Y d P bc bs (pc + 3) ls (v :: st) g n) : PW Y d P bc bs pc ls st g n := by
  intro p l e R s m args below meth c D fz N0 C H locs cells slots lr V
  exact va_getsN C.1 C.2.1 (C.env.2.2.2.1.1 _ hz) V.2.1 C.own (va_Nw.use rfl (C.env.2.2.2.2.1 _ hlink rfl)) (fun _ h => h) dd (kk p l e R s m args below meth c D fz N0 C H locs cells slots lr V)
theorem pw_ldcS {idx a : Nat} {tx : String} (hq : (Y.2.1, idx, tx, a) ∈ zStr) (ha : a < zK) (dd : decode Y.2.2.1 pc = .ok (.ldc idx, 2)) (kk : PW Y d P bc bs (pc + 2) ls (.ref a :: st) g n) : PW Y d P bc bs pc ls st g n := by
  intro p l e R s m args below meth c D fz N0 C H locs cells slots lr V
  have h := kk p l e R s m args below meth c D fz N0 C H locs cells slots lr V
  rw [List.map_cons, show zv_tr (zr fz N0) (.ref a) = .ref (fz a) from congrArg Value.ref (zr_lo ha)] at h
  exact va_ldcS C.1 C.2.1 C.own (C.env.2.2.2.1.2.1 _ hq) dd h
theorem pw_ldcM {idx : Nat} (hcl : Cond.classLink Y.2.1 idx "[Ljava/lang/Object;" ∈ lw_all) (dd : decode Y.2.2.1 pc = .ok (.ldc idx, 2)) (kk : PW Y d P bc bs (pc + 2) ls (.ref 66 :: st) g n) : PW Y d P bc bs pc ls st g n := by
  intro p l e R s m args below meth c D fz N0 C H locs cells slots lr V
  have h := kk p l e R s m args below meth c D fz N0 C H locs cells slots lr V
  rw [List.map_cons, show zv_tr (zr fz N0) (.ref 66) = .ref (fz 66) from congrArg Value.ref (zr_lo (by decide))] at h
  exact va_ldcM C.1 C.2.1 C.own (C.hts _ hcl) C.env.2.2.2.1.2.2.2.2.1 dd h
theorem pw_castY {C9 nm : String} {T9 : u_T} {N9 ci idx a : Nat} {ty0 : Nat → FieldType} (hcf : zCF C9 T9 N9 ci ty0) (hs : zsh g a = some (.inl ci)) (hcl : Cond.classLink Y.2.1 idx nm ∈ lw_all) (hz : Cond.castable C9 nm ∈ lw_tbl) (dd : decode Y.2.2.1 pc = .ok (.checkcast idx, 3)) (kk : PW Y d P bc bs (pc + 3) ls (.ref a :: st) g n) : PW Y d P bc bs pc ls (.ref a :: st) g n := by
  intro p l e R s m args below meth c D fz N0 C H locs cells slots lr V
  exact va_castY C.1 C.2.1 C.own (C.hts _ hcl) (C.env.2.2.2.2.1 _ hz rfl) (zrecv C V.1 hs hcf) dd (kk p l e R s m args below meth c D fz N0 C H locs cells slots lr V)
theorem pw_castS {C9 : String} {T9 : u_T} {N9 ci idx a : Nat} {ty0 : Nat → FieldType} (hcf : zCF C9 T9 N9 ci ty0) (hs : zsh g a = some (.inl ci)) (hcl : Cond.classLink Y.2.1 idx C9 ∈ lw_all) (dd : decode Y.2.2.1 pc = .ok (.checkcast idx, 3)) (kk : PW Y d P bc bs (pc + 3) ls (.ref a :: st) g n) : PW Y d P bc bs pc ls (.ref a :: st) g n := by
  intro p l e R s m args below meth c D fz N0 C H locs cells slots lr V
  exact va_castS C.1 C.2.1 C.own (C.hts _ hcl) (C.env.K.1 ci _ hcf.1).2 (zrecv C V.1 hs hcf) dd (kk p l e R s m args below meth c D fz N0 C H locs cells slots lr V)
theorem pw_instE {C9 : String} {T9 : u_T} {N9 ci idx a : Nat} {ty0 : Nat → FieldType} (hcf : zCF C9 T9 N9 ci ty0) (hs : zsh g a = some (.inl ci)) (hcl : Cond.classLink Y.2.1 idx C9 ∈ lw_all) (dd : decode Y.2.2.1 pc = .ok (.instanceof idx, 3)) (kk : PW Y d P bc bs (pc + 3) ls (.int 1 :: st) g n) : PW Y d P bc bs pc ls (.ref a :: st) g n := by
  intro p l e R s m args below meth c D fz N0 C H locs cells slots lr V
  exact va_instE C.1 C.2.1 C.own (C.hts _ hcl) (zrecv C V.1 hs hcf) dd (kk p l e R s m args below meth c D fz N0 C H locs cells slots lr V)
theorem pw_anew {C0 : String} (kd N : Nat) {idx : Nat} (hk : zAk[kd]? = some (.object C0)) (hk7 : kd < 7) (hcl : Cond.classLink Y.2.1 idx C0 ∈ lw_all) (hov : C0 ∈ zAov) (hN : N ≤ 60000) (dd : decode Y.2.2.1 pc = .ok (.anewarray idx, 3)) (kk : PW Y d P bc bs (pc + 3) ls (.ref (znx g) :: st) (znwG g (.inr (kd, N))) (znwN n (znx g))) : PW Y d P (bc + 1) (bs + N) pc ls (.int (nI N) :: st) g n := by
  intro p l e R s m args below meth c D fz N0 C H locs cells slots lr V
  have hre := V.1.real
  have hcN : (nI N).toNatClampNeg = N := nI_clamp (by omega)
  refine W.anew C.1 C.2.1 C.own (C.hts _ hcl) (va_AO.use (C.env.2.2.2.2.2 _ hov)) rfl dd rfl (nI_pos (by omega)) (by rw [hcN]; omega) (by have := V.2.2.2.1; omega) (by rw [hcN]; have := V.2.2.2.2; omega) fun cA kA comp f1 f2 f3 f4 => ?_
  obtain ⟨_, _, _, _, _, h9⟩ := (C.env.1.2 kd _ hk).2 hk7
  have hcA : cA = D.2 kd := Option.some.inj (f1.symm.trans h9)
  subst hcA
  generalize hH1 : H.push ({ cls := D.2 kd, slots := Array.replicate (nI N).toNatClampNeg .null, vm := .none } : Cell) = H1
  have z1 : H1.size = H.size + 1 := by rw [← hH1, Array.size_push]
  have o1 : ∀ q : Nat, q < H.size → H1[q]? = H[q]? := fun q hq => by rw [← hH1, Array.getElem?_push, if_neg (Nat.ne_of_lt hq)]
  have e1 : H1[zr fz N0 (znx g)]? = some (arrV (D.2 kd) N (fun j => zev (zr fz N0) (znwG g (.inr (kd, N))) (znwN n (znx g)) (.object C0) (znx g) j)) := by
    rw [hre, ← hH1, Array.getElem?_push_size, hcN, arrV_new]
    congr 2
    funext j
    exact (zev_new (zOkT_of (ty := .object C0) rfl)).symm
  have := kk p l e R s m args below meth c D fz N0 C H1 locs (cells + 1) (slots + N) lr ⟨V.1.push C.env.lo z1 o1 (zAt.ofArr znw_sh hk e1), zS.grow V.2.1 (by omega) o1, V.2.2.1, by have := V.2.2.2.1; omega, by have := V.2.2.2.2; omega⟩
  rw [List.map_cons, show zv_tr (zr fz N0) (.ref (znx g)) = .ref H.size from congrArg Value.ref hre] at this
  rw [hcN]
  exact this
theorem pw_aast {C9 : String} {T9 : u_T} {N9 ci a b : Nat} {ty0 : Nat → FieldType} {C0 : String} {kd len : Nat} {i : Int32} (j : Nat) (hi : i = nI j) (hk : zAk[kd]? = some (.object C0)) (hk7 : kd < 7) (hs : zsh g a = some (.inr (kd, len))) (ha : zK ≤ a) (hj : j < len) (hlen : len < 2147483648) (hsb : zsh g b = some (.inl ci)) (hcf : zCF C9 T9 N9 ci ty0) (hz : C9 = C0 ∨ Cond.castable C9 C0 ∈ lw_tbl) (dd : decode Y.2.2.1 pc = .ok (.aastore, 1)) (kk : PW Y d P bc bs (pc + 1) ls st (zpar g a j (some b)) n) : PW Y d P bc bs pc ls (.ref b :: .int i :: .ref a :: st) g n := by
  intro p l e R s m args below meth c D fz N0 C H locs cells slots lr V
  subst hi
  have hcl : (nI j).toNatClampNeg = j := nI_clamp (by omega)
  obtain ⟨cell, h1, h2, -⟩ := (V.1.2.2.2.1 a).arr hs hk
  have h2 := h2 ha
  subst h2
  obtain ⟨cv, v1, v2, v3, v4, v5, v6⟩ := (V.1.2.2.2.1 b).obj hsb hcf
  have hcls := (C.env.K.1 ci _ hcf.1).2
  obtain ⟨kA, comp, k1, k2, k3, k4⟩ := (C.env.1.2 kd _ hk).2 hk7
  obtain ⟨-, kC, hkC, hkind⟩ := hcls
  have hasg : s.vm.assignable cv.cls comp = true := by
    rw [v2]
    rcases hz with rfl | hz
    · have hcomp : comp = D.1.1 ci := Option.some.inj (k3.symm.trans (C.env.K.1 ci _ hcf.1).2.1)
      rw [hcomp]; exact va_assign (C.env.K.1 ci _ hcf.1).2
    · obtain ⟨c0, t0, f1, f2, f3⟩ := Cond.castable_spec (va_Nw.use (A := args) rfl (C.env.2.2.2.2.1 _ hz rfl))
      rw [show comp = t0 from Option.some.inj (k3.symm.trans f2), show D.1.1 ci = c0 from Option.some.inj ((C.env.K.1 ci _ hcf.1).2.1.symm.trans f1)]
      exact f3
  obtain ⟨kcomp, hkcomp, -⟩ := Vm.findClass_spec k3
  refine W.aast C.1 C.2.1 h1 (fun q h => by cases h) (fun h => by cases h) k1 k2 rfl hkcomp ⟨nI_pos (by omega), by show _ < (arrV _ _ _).slots.size; rw [arrV_size, hcl]; exact hj⟩ v1 (fun q h => by rw [h] at v4; cases v4) (by rw [v2]; exact hkC) hasg rfl rfl dd fun H1 e1 z oq => ?_
  refine kk p l e R s m args below meth c D fz N0 C H1 _ cells slots lr ⟨V.1.put C.env.lo ha (fun _ => rfl) rfl (fun q hq => ⟨fun _ => rfl, fun _ => zu2_b hq, fun _ => rfl, fun _ => rfl, fun _ => rfl, fun _ => rfl⟩) z oq (zAt.ofArr (g := zpar g a j (some b)) (n := n) hs hk ?_), zS.put V.2.1 z oq ha, V.2.2⟩
  rw [e1, hcl, arrV_store]
  congr 2
  funext q
  by_cases hq : q = j
  · subst hq
    simp [updV, zev, zar, zpar, zu2, va_rf]
  · simp [updV, zev, zar, zpar, zu2, hq]
theorem pw_mmin {x y : Int32} {idx : Nat} (hlink : Cond.methodLink Y.2.1 idx Lib.Math.min.name ∈ lw_all) (hstat : Cond.static Lib.Math.min.name ∈ lw_all) (hini : Cond.initialized "java/lang/Math" ∈ lw_all) (hcode : Cond.code Lib.Math.min.name Lib.Math.min.code 2 (some .int) ∈ lw_all) (hd : 1 ≤ d) (hst : (st.map fun v => v.category).sum ≤ 8) (dd : decode Y.2.2.1 pc = .ok (.invokestatic idx, 3)) (kk : PW Y d P bc bs (pc + 3) ls (.int (if y < x then y else x) :: st) g n) : PW Y d P bc bs pc ls (.int y :: .int x :: st) g n := by
  intro p l e R s m args below meth c D fz N0 C H locs cells slots lr V
  have h1 : d ≤ R.frames := C.2.2.2.2.2.2.2.2.2.2.1
  have h2 : 40 * d ≤ R.locals := C.2.2.2.2.2.2.2.2.2.2.2.1
  exact va_mmin C.1 C.2.1 (C.2.2.2.1.trans V.2.2.1.1.symm) C.own (C.hts _ hlink) (C.hts _ hstat) (C.hts _ hini) (C.hts _ hcode) (by omega) (by rw [zcat_sum]; omega) (by have := V.2.2.2.1; omega) (by have := V.2.2.2.2; omega) dd (kk p l e R s m args below meth c D fz N0 C H locs cells slots lr V)
theorem pw_mmax {x y : Int32} {idx : Nat} (hlink : Cond.methodLink Y.2.1 idx Lib.Math.max.name ∈ lw_all) (hstat : Cond.static Lib.Math.max.name ∈ lw_all) (hini : Cond.initialized "java/lang/Math" ∈ lw_all) (hcode : Cond.code Lib.Math.max.name Lib.Math.max.code 2 (some .int) ∈ lw_all) (hd : 1 ≤ d) (hst : (st.map fun v => v.category).sum ≤ 8) (dd : decode Y.2.2.1 pc = .ok (.invokestatic idx, 3)) (kk : PW Y d P bc bs (pc + 3) ls (.int (if x < y then y else x) :: st) g n) : PW Y d P bc bs pc ls (.int y :: .int x :: st) g n := by
  intro p l e R s m args below meth c D fz N0 C H locs cells slots lr V
  have h1 : d ≤ R.frames := C.2.2.2.2.2.2.2.2.2.2.1
  have h2 : 40 * d ≤ R.locals := C.2.2.2.2.2.2.2.2.2.2.2.1
  exact va_mmax C.1 C.2.1 (C.2.2.2.1.trans V.2.2.1.1.symm) C.own (C.hts _ hlink) (C.hts _ hstat) (C.hts _ hini) (C.hts _ hcode) (by omega) (by rw [zcat_sum]; omega) (by have := V.2.2.2.1; omega) (by have := V.2.2.2.2; omega) dd (kk p l e R s m args below meth c D fz N0 C H locs cells slots lr V)
/-- getClass() of an array of Objects -/
theorem pw_getC {idx a len : Nat} (hs : zsh g a = some (.inr (4, len))) (ha : zK ≤ a) (hlink : Cond.methodLink Y.2.1 idx ⟨"java/lang/Object", "getClass", "()Ljava/lang/Class;"⟩ ∈ lw_all) (hdecl : Cond.declares ⟨"java/lang/Object", "getClass", "()Ljava/lang/Class;"⟩ ∈ lw_tbl) (hsel : Cond.selects "[Ljava/lang/Object;" ⟨"java/lang/Object", "getClass", "()Ljava/lang/Class;"⟩ ⟨"java/lang/Object", "getClass", "()Ljava/lang/Class;"⟩ ∈ lw_all) (hinst : Cond.instanceMethod ⟨"java/lang/Object", "getClass", "()Ljava/lang/Class;"⟩ ∈ lw_all) (hnat : Cond.native ⟨"java/lang/Object", "getClass", "()Ljava/lang/Class;"⟩ ∈ lw_all) (hd : 1 ≤ d) (hst : (st.map fun v => v.category).sum ≤ 8) (dd : decode Y.2.2.1 pc = .ok (.invokevirtual idx, 3)) (kk : PW Y d P bc bs (pc + 3) ls (.ref 66 :: st) g n) : PW Y d P bc bs pc ls (.ref a :: st) g n := by
  intro p l e R s m args below meth c D fz N0 C H locs cells slots lr V
  have h1 : d ≤ R.frames := C.2.2.2.2.2.2.2.2.2.2.1
  have h2 : 40 * d ≤ R.locals := C.2.2.2.2.2.2.2.2.2.2.2.1
  have h := kk p l e R s m args below meth c D fz N0 C H locs cells slots lr V
  rw [List.map_cons, show zv_tr (zr fz N0) (.ref 66) = .ref (fz 66) from congrArg Value.ref (zr_lo (by decide))] at h
  obtain ⟨cell, q1, q2, q3, q4, q5, q6, q7⟩ := (V.1.2.2.2.1 a).arr hs (ty := .object "java/lang/Object") rfl
  obtain ⟨_, _, _, _, _, h9⟩ := (C.env.1.2 4 (.object "java/lang/Object") rfl).2 (by decide)
  exact va_getC C.1 C.2.1 (C.2.2.2.1.trans V.2.2.1.1.symm) C.own (C.hts _ hlink) (va_Nw.use rfl (C.env.2.2.2.2.1 _ hdecl rfl)) (C.hts _ hsel) (C.hts _ hinst) (C.hts _ hnat) C.env.2.2.2.1.2.2.2.2.1 ⟨cell, q1, q4, by rw [q3]; exact h9⟩ (by omega) (by rw [zcat_sum]; omega) dd h

end PWZ

