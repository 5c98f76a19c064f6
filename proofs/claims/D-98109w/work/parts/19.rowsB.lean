/-! ===== rows for the class: copies, throws, catches, methods with handlers ===== -/
def zcpN (n : zg_N) (a0 a sp dp m : Nat) : zg_N := (n.1, n.2.1, (fun b k => if b = a ∧ dp ≤ k ∧ k < dp + m then zai n a0 (sp + (k - dp)) else zai n b k), n.2.2.2)
def zcpG (g : zg_G) (a0 a sp dp m : Nat) : zg_G := (g.1, g.2.1, (fun b k => if b = a ∧ dp ≤ k ∧ k < dp + m then zar g a0 (sp + (k - dp)) else zar g b k), g.2.2.2)
section PWZ2
variable {Y : zY} {d : Nat} {P : zP} {bc bs pc : Nat} {ls : List (Nat × Value)} {st : List Value} {g : zg_G} {n : zg_N}
theorem pw_copyi {idx a0 a len0 len1 : Nat} (kd sp dp m : Nat) {ty : FieldType} {i1 i2 i3 : Int32} (hi1 : i1 = nI sp) (hi2 : i2 = nI dp) (hi3 : i3 = nI m) (hk : zAk[kd]? = some ty) (hty : ty = .int ∨ ty = .byte) (hs0 : zsh g a0 = some (.inr (kd, len0))) (ha0 : zK ≤ a0) (hs1 : zsh g a = some (.inr (kd, len1))) (ha : zK ≤ a) (h4 : sp + m ≤ len0) (h5 : dp + m ≤ len1) (hl0 : len0 < 2147483648) (hl1 : len1 < 2147483648) (hfit : ∀ i, i < m → fits ty (.int (zai n a0 (sp + i))) = true)
    (hlink : Cond.methodLink Y.2.1 idx arraycopyName ∈ lw_all) (hnat : Cond.native arraycopyName ∈ lw_all) (hstat : Cond.static arraycopyName ∈ lw_all) (hini : Cond.initialized "java/lang/System" ∈ lw_all) (hd : 1 ≤ d) (hst : (st.map fun v => v.category).sum ≤ 8) (dd : decode Y.2.2.1 pc = .ok (.invokestatic idx, 3)) (kk : PW Y d P bc bs (pc + 3) ls st g (zcpN n a0 a sp dp m)) : PW Y d P bc bs pc ls (.int i3 :: .int i2 :: .ref a :: .int i1 :: .ref a0 :: st) g n := by
  intro p l e R s m9 args below meth c D fz N0 C H locs cells slots lr V
  subst hi1; subst hi2; subst hi3
  skip
  have q1 : d ≤ R.frames := C.2.2.2.2.2.2.2.2.2.2.1
  have q2 : 40 * d ≤ R.locals := C.2.2.2.2.2.2.2.2.2.2.2.1
  have cs : (nI sp).toNatClampNeg = sp := nI_clamp (by omega)
  have cd : (nI dp).toNatClampNeg = dp := nI_clamp (by omega)
  have cm : (nI m).toNatClampNeg = m := nI_clamp (by omega)
  have ts : (nI sp).toInt = (sp : Int) := nI_toInt (by omega)
  have td : (nI dp).toInt = (dp : Int) := nI_toInt (by omega)
  have tm : (nI m).toInt = (m : Int) := nI_toInt (by omega)
  have hw : nativeFrameWords "java/lang/System" "arraycopy" 5 ≤ 12 := by decide
  have hc0 : H[zr fz N0 a0]? = some (arrV (D.2 kd) len0 (fun j => .int (zai n a0 j))) := by
    obtain ⟨cell, h1, h2, -⟩ := (V.1.2.2.2.1 a0).arr hs0 hk
    rw [h1, h2 ha0]
    rcases hty with rfl | rfl <;> rfl
    skip
  have hc1 : H[zr fz N0 a]? = some (arrV (D.2 kd) len1 (fun j => .int (zai n a j))) := by
    obtain ⟨cell, h1, h2, -⟩ := (V.1.2.2.2.1 a).arr hs1 hk
    rw [h1, h2 ha]
    rcases hty with rfl | rfl <;> rfl
    skip
  have hAr := zK_ty C.env hk
  intro T hT X
  obtain ⟨-, k0, hk0, cm0, hkk0⟩ := hAr len0 (fun j => .int (zai n a0 j))
  obtain ⟨-, k1, hk1, cm1, hkk1⟩ := hAr len1 (fun j => .int (zai n a j))
  obtain ⟨vm', X', step⟩ := X.arraycopy C.1 C.own (C.hts _ hlink) (C.hts _ hnat) (C.hts _ hstat) (C.hts _ hini) (src := zr fz N0 a0) (dst := zr fz N0 a) (cs := arrV (D.2 kd) len0 (fun j => .int (zai n a0 j))) (cd := arrV (D.2 kd) len1 (fun j => .int (zai n a j))) (srcPos := nI sp) (destPos := nI dp) (n := nI m) (by rw [hT]; exact hc0) (by rw [hT]; exact hc1)
    (fun _ h => by cases h) (fun _ h => by cases h) (fun h => by cases h) (fun h => by cases h) hk0 hk1 hkk0 hkk1 (by rcases hty with rfl | rfl <;> simp [refKind]) (nI_pos (by omega)) (nI_pos (by omega)) (nI_pos (by omega))
    (by rw [ts, tm, arrV_size]; omega)
    (by rw [td, tm, arrV_size]; omega)
    (fun vm₁ _ i hi => by
      have e9 : (arrV (D.2 kd) len0 (fun j => .int (zai n a0 j))).slots.getD ((nI sp).toNatClampNeg + i) .null = .int (zai n a0 (sp + i)) := by
        rw [cs, Array.getD_eq_getD_getElem?, arrV_read _ _ (by rw [cm] at hi; omega)]
        rfl
      refine ⟨?_, ?_⟩
      · rw [e9]; rw [cm] at hi; exact hfit i hi
      · rw [e9]; exact trivial)
    (g := F0 m9 pc lr _) rfl (by show lr.size = c.maxLocals; exact V.2.2.1.1.trans C.2.2.2.1.symm) (rest := st.map (zv_tr (zr fz N0))) rfl (by rw [C.2.1]; exact dd) (by omega) (by show 2 * 0 + _ + _ ≤ _; rw [zcat_sum]; omega)
  have e1 : copied (arrV (D.2 kd) len0 (fun j => .int (zai n a0 j))) (arrV (D.2 kd) len1 (fun j => .int (zai n a j))) (nI sp) (nI dp) (nI m) = arrV (D.2 kd) len1 (fun j => (fun z : Int32 => Value.int z) (va_cpy (fun j => zai n a0 j) (fun j => zai n a j) sp dp m j)) := by
    have := va_copied (fun z : Int32 => Value.int z) (D.2 kd) (D.2 kd) (fun j => zai n a0 j) (fun j => zai n a j) (n0 := len0) (n1 := len1) (sp := sp) (dp := dp) (n := m) h4
    unfold copied
    rw [cs, cd, cm]
    exact this
  rw [e1] at X' step
  have hl : zr fz N0 a < H.size := (Array.getElem?_eq_some_iff.mp hc1).1
  have hheap : ((T.setVm vm').setCell (zr fz N0 a) (arrV (D.2 kd) len1 (fun j => (fun z : Int32 => Value.int z) (va_cpy (fun j => zai n a0 j) (fun j => zai n a j) sp dp m j)))).heap = H.setIfInBounds (zr fz N0 a) (arrV (D.2 kd) len1 (fun j => (fun z : Int32 => Value.int z) (va_cpy (fun j => zai n a0 j) (fun j => zai n a j) sp dp m j))) := by rw [← hT]; rfl
  have oq : ∀ q : Nat, q ≠ zr fz N0 a → (H.setIfInBounds (zr fz N0 a) (arrV (D.2 kd) len1 (fun j => (fun z : Int32 => Value.int z) (va_cpy (fun j => zai n a0 j) (fun j => zai n a j) sp dp m j))))[q]? = H[q]? := fun q hq => by simp [Array.getElem?_setIfInBounds, Ne.symm hq]
  have hself : (H.setIfInBounds (zr fz N0 a) (arrV (D.2 kd) len1 (fun j => (fun z : Int32 => Value.int z) (va_cpy (fun j => zai n a0 j) (fun j => zai n a j) sp dp m j))))[zr fz N0 a]? = some (arrV (D.2 kd) len1 (fun j => (fun z : Int32 => Value.int z) (va_cpy (fun j => zai n a0 j) (fun j => zai n a j) sp dp m j))) := by simp [Array.getElem?_setIfInBounds, hl]
  generalize hH1 : H.setIfInBounds (zr fz N0 a) (arrV (D.2 kd) len1 (fun j => (fun z : Int32 => Value.int z) (va_cpy (fun j => zai n a0 j) (fun j => zai n a j) sp dp m j))) = H1 at hheap oq hself
  have z1 : H1.size = H.size := by rw [← hH1]; simp
  have hfin : H1[zr fz N0 a]? = some (arrV (D.2 kd) len1 (fun j => zev (zr fz N0) g (zcpN n a0 a sp dp m) ty a j)) := by
    rw [show (fun j => zev (zr fz N0) g (zcpN n a0 a sp dp m) ty a j) = (fun j => (fun z : Int32 => Value.int z) (va_cpy (fun j => zai n a0 j) (fun j => zai n a j) sp dp m j)) from funext fun j => by
      rcases hty with rfl | rfl <;> (show Value.int (if a = a ∧ dp ≤ j ∧ j < dp + m then zai n a0 (sp + (j - dp)) else zai n a j) = Value.int (va_cpy _ _ sp dp m j); unfold va_cpy; by_cases h : dp ≤ j ∧ j < dp + m; (rw [if_pos ⟨rfl, h⟩, if_pos h]); (rw [if_neg (fun z => h z.2), if_neg h]))
      skip]
    exact hself
  obtain ⟨t, a1, b1⟩ := kk p l e R s m9 args below meth c D fz N0 C H1 _ cells slots lr ⟨V.1.put C.env.lo ha (fun _ => rfl) rfl (fun q hq => ⟨fun _ => rfl, fun _ => rfl, fun _ => rfl, fun _ => rfl, fun _ => if_neg (fun z => hq z.1), fun _ => rfl⟩) z1 oq (zAt.ofArr (g := g) (n := (zcpN n a0 a sp dp m)) hs1 hk hfin), ⟨by rw [z1]; exact V.2.1.1, fun q g1 g2 => by
      rw [oq q (fun e => g2 (by rw [e]; exact zr_ge ha))]
      exact V.2.1.2.1 q g1 g2, fun q hq => by
      rcases List.mem_append.mp hq with h | h
      · exact V.2.1.2.2 q h
      · obtain ⟨z, -, hz⟩ := List.mem_map.mp h
        rw [← hz]
        exact zr_ge ha⟩, V.2.2⟩ _ hheap X'
  exact ⟨t, step t a1, b1⟩
theorem pw_copyq {idx a0 a len0 len1 : Nat} (kd sp dp m : Nat) {ty : FieldType} {i1 i2 i3 : Int32} (hi1 : i1 = nI sp) (hi2 : i2 = nI dp) (hi3 : i3 = nI m) (hk : zAk[kd]? = some ty) {E0 : String} (hty : ty = .object E0) (hk7 : kd < 7) (hs0 : zsh g a0 = some (.inr (kd, len0))) (ha0 : zK ≤ a0) (hs1 : zsh g a = some (.inr (kd, len1))) (ha : zK ≤ a) (h4 : sp + m ≤ len0) (h5 : dp + m ≤ len1) (hl0 : len0 < 2147483648) (hl1 : len1 < 2147483648) (hfit : ∀ i, i < m → ∀ b, zar g a0 (sp + i) = some b → ∃ (ci : Nat) (C9 : String) (T9 : u_T) (N9 : Nat) (ty9 : Nat → FieldType), zsh g b = some (.inl ci) ∧ zCF C9 T9 N9 ci ty9 ∧ Cond.castable C9 E0 ∈ lw_tbl)
    (hlink : Cond.methodLink Y.2.1 idx arraycopyName ∈ lw_all) (hnat : Cond.native arraycopyName ∈ lw_all) (hstat : Cond.static arraycopyName ∈ lw_all) (hini : Cond.initialized "java/lang/System" ∈ lw_all) (hd : 1 ≤ d) (hst : (st.map fun v => v.category).sum ≤ 8) (dd : decode Y.2.2.1 pc = .ok (.invokestatic idx, 3)) (kk : PW Y d P bc bs (pc + 3) ls st (zcpG g a0 a sp dp m) n) : PW Y d P bc bs pc ls (.int i3 :: .int i2 :: .ref a :: .int i1 :: .ref a0 :: st) g n := by
  intro p l e R s m9 args below meth c D fz N0 C H locs cells slots lr V
  subst hi1; subst hi2; subst hi3
  subst hty
  have q1 : d ≤ R.frames := C.2.2.2.2.2.2.2.2.2.2.1
  have q2 : 40 * d ≤ R.locals := C.2.2.2.2.2.2.2.2.2.2.2.1
  have cs : (nI sp).toNatClampNeg = sp := nI_clamp (by omega)
  have cd : (nI dp).toNatClampNeg = dp := nI_clamp (by omega)
  have cm : (nI m).toNatClampNeg = m := nI_clamp (by omega)
  have ts : (nI sp).toInt = (sp : Int) := nI_toInt (by omega)
  have td : (nI dp).toInt = (dp : Int) := nI_toInt (by omega)
  have tm : (nI m).toInt = (m : Int) := nI_toInt (by omega)
  have hw : nativeFrameWords "java/lang/System" "arraycopy" 5 ≤ 12 := by decide
  have hc0 : H[zr fz N0 a0]? = some (arrV (D.2 kd) len0 (fun j => va_rf ((zar g a0 j).map (zr fz N0)))) := by
    obtain ⟨cell, h1, h2, -⟩ := (V.1.2.2.2.1 a0).arr hs0 hk
    rw [h1, h2 ha0]
    skip
    rfl
  have hc1 : H[zr fz N0 a]? = some (arrV (D.2 kd) len1 (fun j => va_rf ((zar g a j).map (zr fz N0)))) := by
    obtain ⟨cell, h1, h2, -⟩ := (V.1.2.2.2.1 a).arr hs1 hk
    rw [h1, h2 ha]
    skip
    rfl
  have hAr := zK_ty C.env hk
  intro T hT X
  obtain ⟨-, k0, hk0, cm0, hkk0⟩ := hAr len0 (fun j => va_rf ((zar g a0 j).map (zr fz N0)))
  obtain ⟨-, k1, hk1, cm1, hkk1⟩ := hAr len1 (fun j => va_rf ((zar g a j).map (zr fz N0)))
  obtain ⟨vm', X', step⟩ := X.arraycopy C.1 C.own (C.hts _ hlink) (C.hts _ hnat) (C.hts _ hstat) (C.hts _ hini) (src := zr fz N0 a0) (dst := zr fz N0 a) (cs := arrV (D.2 kd) len0 (fun j => va_rf ((zar g a0 j).map (zr fz N0)))) (cd := arrV (D.2 kd) len1 (fun j => va_rf ((zar g a j).map (zr fz N0)))) (srcPos := nI sp) (destPos := nI dp) (n := nI m) (by rw [hT]; exact hc0) (by rw [hT]; exact hc1)
    (fun _ h => by cases h) (fun _ h => by cases h) (fun h => by cases h) (fun h => by cases h) hk0 hk1 hkk0 hkk1 (by rfl) (nI_pos (by omega)) (nI_pos (by omega)) (nI_pos (by omega))
    (by rw [ts, tm, arrV_size]; omega)
    (by rw [td, tm, arrV_size]; omega)
    (fun vm₁ hal i hi => by
      have e9 : (arrV (D.2 kd) len0 (fun j => va_rf ((zar g a0 j).map (zr fz N0)))).slots.getD ((nI sp).toNatClampNeg + i) .null = va_rf ((zar g a0 (sp + i)).map (zr fz N0)) := by
        rw [cs, Array.getD_eq_getD_getElem?, arrV_read _ _ (by rw [cm] at hi; omega)]
        rfl
      rw [cm] at hi
      rw [e9]
      cases hy : zar g a0 (sp + i) with
      | none => exact ⟨rfl, trivial⟩
      | some y =>
        obtain ⟨ci, C9, T9, N9, ty9, y1, y2, y3⟩ := hfit i hi y hy
        obtain ⟨cellV, g1, g2, g3⟩ := zrecv C V.1 y1 y2
        obtain ⟨kA, comp, r1, r2, r3, -⟩ := (C.env.1.2 kd _ hk).2 hk7
        cases hk1.symm.trans r1
        cases hkk1.symm.trans r2
        obtain ⟨kC, hkC, -⟩ := Vm.findClass_spec g3
        obtain ⟨kE, hkE, -⟩ := Vm.findClass_spec r3
        obtain ⟨kC', hkC', -⟩ := hal.2.2 _ _ hkC
        obtain ⟨kE', hkE', -⟩ := hal.2.2 _ _ hkE
        refine ⟨rfl, cellV, (show T.heap[zr fz N0 y]? = some cellV by rw [hT]; exact g1), (fun q h => by rw [h] at g2; cases g2), ⟨kC', hkC'⟩, ?_, ?_⟩
        · exact ⟨kE', hkE'⟩
        · show vm₁.assignable _ _ = true
          rw [hal.assignable]
          obtain ⟨c9, t9, f1, f2, f3⟩ := Cond.castable_spec (va_Nw.use (A := args) rfl (C.env.2.2.2.2.1 _ y3 rfl))
          cases r3.symm.trans f2
          cases g3.symm.trans f1
          exact f3)
    (g := F0 m9 pc lr _) rfl (by show lr.size = c.maxLocals; exact V.2.2.1.1.trans C.2.2.2.1.symm) (rest := st.map (zv_tr (zr fz N0))) rfl (by rw [C.2.1]; exact dd) (by omega) (by show 2 * 0 + _ + _ ≤ _; rw [zcat_sum]; omega)
  have e1 : copied (arrV (D.2 kd) len0 (fun j => va_rf ((zar g a0 j).map (zr fz N0)))) (arrV (D.2 kd) len1 (fun j => va_rf ((zar g a j).map (zr fz N0)))) (nI sp) (nI dp) (nI m) = arrV (D.2 kd) len1 (fun j => (fun z : Option Nat => va_rf z) (va_cpy (fun j => (zar g a0 j).map (zr fz N0)) (fun j => (zar g a j).map (zr fz N0)) sp dp m j)) := by
    have := va_copied (fun z : Option Nat => va_rf z) (D.2 kd) (D.2 kd) (fun j => (zar g a0 j).map (zr fz N0)) (fun j => (zar g a j).map (zr fz N0)) (n0 := len0) (n1 := len1) (sp := sp) (dp := dp) (n := m) h4
    unfold copied
    rw [cs, cd, cm]
    exact this
  rw [e1] at X' step
  have hl : zr fz N0 a < H.size := (Array.getElem?_eq_some_iff.mp hc1).1
  have hheap : ((T.setVm vm').setCell (zr fz N0 a) (arrV (D.2 kd) len1 (fun j => (fun z : Option Nat => va_rf z) (va_cpy (fun j => (zar g a0 j).map (zr fz N0)) (fun j => (zar g a j).map (zr fz N0)) sp dp m j)))).heap = H.setIfInBounds (zr fz N0 a) (arrV (D.2 kd) len1 (fun j => (fun z : Option Nat => va_rf z) (va_cpy (fun j => (zar g a0 j).map (zr fz N0)) (fun j => (zar g a j).map (zr fz N0)) sp dp m j))) := by rw [← hT]; rfl
  have oq : ∀ q : Nat, q ≠ zr fz N0 a → (H.setIfInBounds (zr fz N0 a) (arrV (D.2 kd) len1 (fun j => (fun z : Option Nat => va_rf z) (va_cpy (fun j => (zar g a0 j).map (zr fz N0)) (fun j => (zar g a j).map (zr fz N0)) sp dp m j))))[q]? = H[q]? := fun q hq => by simp [Array.getElem?_setIfInBounds, Ne.symm hq]
  have hself : (H.setIfInBounds (zr fz N0 a) (arrV (D.2 kd) len1 (fun j => (fun z : Option Nat => va_rf z) (va_cpy (fun j => (zar g a0 j).map (zr fz N0)) (fun j => (zar g a j).map (zr fz N0)) sp dp m j))))[zr fz N0 a]? = some (arrV (D.2 kd) len1 (fun j => (fun z : Option Nat => va_rf z) (va_cpy (fun j => (zar g a0 j).map (zr fz N0)) (fun j => (zar g a j).map (zr fz N0)) sp dp m j))) := by simp [Array.getElem?_setIfInBounds, hl]
  generalize hH1 : H.setIfInBounds (zr fz N0 a) (arrV (D.2 kd) len1 (fun j => (fun z : Option Nat => va_rf z) (va_cpy (fun j => (zar g a0 j).map (zr fz N0)) (fun j => (zar g a j).map (zr fz N0)) sp dp m j))) = H1 at hheap oq hself
  have z1 : H1.size = H.size := by rw [← hH1]; simp
  have hfin : H1[zr fz N0 a]? = some (arrV (D.2 kd) len1 (fun j => zev (zr fz N0) (zcpG g a0 a sp dp m) n (.object E0) a j)) := by
    rw [show (fun j => zev (zr fz N0) (zcpG g a0 a sp dp m) n (.object E0) a j) = (fun j => (fun z : Option Nat => va_rf z) (va_cpy (fun j => (zar g a0 j).map (zr fz N0)) (fun j => (zar g a j).map (zr fz N0)) sp dp m j)) from funext fun j => by
      skip
      show va_rf ((if a = a ∧ dp ≤ j ∧ j < dp + m then zar g a0 (sp + (j - dp)) else zar g a j).map (zr fz N0)) = va_rf (va_cpy _ _ sp dp m j)
      unfold va_cpy
      by_cases h : dp ≤ j ∧ j < dp + m
      · rw [if_pos ⟨rfl, h⟩, if_pos h]
      · rw [if_neg (fun z => h z.2), if_neg h]]
    exact hself
  obtain ⟨t, a1, b1⟩ := kk p l e R s m9 args below meth c D fz N0 C H1 _ cells slots lr ⟨V.1.put C.env.lo ha (fun _ => rfl) rfl (fun q hq => ⟨fun _ => rfl, fun _ => if_neg (fun z => hq z.1), fun _ => rfl, fun _ => rfl, fun _ => rfl, fun _ => rfl⟩) z1 oq (zAt.ofArr (g := (zcpG g a0 a sp dp m)) (n := n) hs1 hk hfin), ⟨by rw [z1]; exact V.2.1.1, fun q g1 g2 => by
      rw [oq q (fun e => g2 (by rw [e]; exact zr_ge ha))]
      exact V.2.1.2.1 q g1 g2, fun q hq => by
      rcases List.mem_append.mp hq with h | h
      · exact V.2.1.2.2 q h
      · obtain ⟨z, -, hz⟩ := List.mem_map.mp h
        rw [← hz]
        exact zr_ge ha⟩, V.2.2⟩ _ hheap X'
  exact ⟨t, step t a1, b1⟩
/-- the words of a throw: good ones of the list, or such as ride along -/
def zOkW (w : Cond) : Bool := decide (w ∈ lw_tbl) && (goodWord w || zMv w)
theorem zC.okw {Y : zY} {d : Nat} {p : Program} {l : Launch} {R : Room} {s : State} {m : MethodId} {args : Array Value} {meth : Method} {c : Code} {D : zD} {fz : Nat → Nat} {N0 : Nat} (C : zC Y d p l R s m args meth c D fz N0) {w : Cond} (h : zOkW w = true) : w.before args s = true ∧ vx_ot w = true := by
  unfold zOkW at h
  rw [Bool.and_eq_true, Bool.or_eq_true, decide_eq_true_eq] at h
  obtain ⟨h1, h2 | h2⟩ := h
  · exact ⟨C.hts _ (List.mem_filter.mpr ⟨h1, h2⟩), by unfold vx_ot; rw [h2, Bool.or_true]⟩
  · exact ⟨va_Nw.use (zMv_ok h2) (C.env.2.2.2.2.1 _ h1 h2), by unfold vx_ot; rw [zMv_ok h2, Bool.true_or]⟩
/-- new E(); throw: nothing is known of the cells in between -/
theorem pw_throw0 {cls : String} {names : List String} {ik ic : Nat} (hcls : Bundle.fit cls = true) (hnames : ∀ n ∈ names, Bundle.fit n = true) (hk : Cond.classLink Y.2.1 ik cls ∈ lw_all) (hini : Cond.initialized cls ∈ lw_all) (hat : ∀ w ∈ vx_at0 Y.2.1 ic cls names, zOkW w = true) (hh : Y.2.2.2.2.2 = []) (hd : names.length + 4 ≤ d) (hst : (st.map fun v => v.category).sum ≤ 8)
    (d0 : decode Y.2.2.1 pc = .ok (.new ik, 3)) (d3 : decode Y.2.2.1 (pc + 3) = .ok (.dup, 1)) (d4 : decode Y.2.2.1 (pc + 4) = .ok (.invokespecial ic, 3)) (d7 : decode Y.2.2.1 (pc + 7) = .ok (.athrow, 1)) (hp : ∀ x a, znx g ≤ a → a < x → P (.inr (cls, a)) (zgap g x) n) : PW Y d P (bc + 1) (bs + 6) pc ls st g n := by
  intro p l e R s m args below meth c D fz N0 C H locs cells slots lr V
  have q1 : d ≤ R.frames := C.2.2.2.2.2.2.2.2.2.2.1
  have q2 : 40 * d ≤ R.locals := C.2.2.2.2.2.2.2.2.2.2.2.1
  have hNH : N0 ≤ H.size := by rw [V.1.2.1]; exact Nat.le_add_right _ _
  refine vx_throw0 (cls := cls) (names := names) (ik := ik) (ic := ic) (A := fun a => N0 ≤ a) C.1 C.2.1 C.2.2.2.2.2.2.2.2.2.1 C.own hcls hnames (C.hts _ hk) (C.hts _ hini) (fun w hw => (C.okw (hat w hw)).1) (fun w hw => ?_) C.env.2.2.2.1.2.2.1 C.env.2.2.2.1.2.2.2.1 V.2.1 (V.2.2.1.1.trans C.2.2.2.1.symm) d0 d3 d4 d7 (by have h9 := C.2.2.2.2.2.2.2.2.1; rw [hh] at h9; rw [h9]; intro x hx; cases hx) (by omega) (by rw [zcat_sum]; omega) (by have := V.2.2.2.1; omega) (by have := V.2.2.2.2; omega) C.2.2.2.2.2.2.1 (fun q0 t hal h1 h2 h3 h4 => ?_) V.2.1.2.2 (by have := V.2.2.2.1; omega) (by have := V.2.2.2.2; omega)
  · rcases List.mem_cons.mp hw with rfl | hw
    · unfold vx_ot; rw [(List.mem_filter.mp hk).2, Bool.or_true]
    · rcases List.mem_cons.mp hw with rfl | hw
      · unfold vx_ot; rw [(List.mem_filter.mp hini).2, Bool.or_true]
      · exact (C.okw (hat w hw)).2
  · have hz := V.1.2.1
    have hzk := V.1.1
    have w1 : @LE.le Nat _ H.size q0 := h1
    have w2 : @LT.lt Nat _ q0 t.heap.size := h2
    have w4 : @Eq Nat q0 (N0 + (zK + (q0 - N0) - zK)) := by omega
    exact ⟨zK + (q0 - N0), zgap g (zK + (t.heap.size - N0)), n, by rw [zr_hi (Nat.le_add_right _ _)]; exact w4, Nat.le_add_right _ _, hp _ _ (by omega) (by omega), V.1.gap C.env.lo hNH h3 h4, (zS.grow V.2.1 h3 h4).F rfl⟩
theorem px_catch {E name : String} {a : Nat} (k0 : Nat) {x : Nat × Nat × Nat × Nat} (hx : Y.2.2.2.2.2[k0]? = some x) (hpass : ∀ z ∈ Y.2.2.2.2.2.take k0, (pc < z.1 ∨ z.2.1 ≤ pc) ∨ (z.2.2.2 ≠ 0 ∧ ∃ nm, Cond.classLink Y.2.1 z.2.2.2 nm ∈ lw_all ∧ (E, nm) ∈ zNcs)) (hc : x.1 ≤ pc ∧ pc < x.2.1) (h0 : x.2.2.2 ≠ 0) (hl : Cond.classLink Y.2.1 x.2.2.2 name ∈ lw_all) (hz : Cond.castable E name ∈ lw_tbl) (k : PW Y d P bc bs x.2.2.1 ls [.ref a] g n) : PX Y d P bc bs pc ls E a g n := by
  intro p l e R s m args below meth c D fz N0 C H locs cells slots lr V ce rest hce hcv hcl ha
  have ht : c.exceptionTable.toList = tableOf Y.2.2.2.2.2 := C.2.2.2.2.2.2.2.2.1
  have hxl := (List.getElem?_eq_some_iff.mp hx).1
  have hsp : tableOf Y.2.2.2.2.2 = tableOf (Y.2.2.2.2.2.take k0) ++ (⟨x.1, x.2.1, x.2.2.1, x.2.2.2⟩ : ExceptionTableEntry) :: tableOf (Y.2.2.2.2.2.drop (k0 + 1)) := by
    unfold tableOf
    rw [← List.map_cons (f := fun q : Nat × Nat × Nat × Nat => (⟨q.1, q.2.1, q.2.2.1, q.2.2.2⟩ : ExceptionTableEntry)), ← List.map_append]
    congr 1
    have h9 : Y.2.2.2.2.2 = Y.2.2.2.2.2.take k0 ++ Y.2.2.2.2.2.drop k0 := (List.take_append_drop _ _).symm
    have h8 : Y.2.2.2.2.2.drop k0 = x :: Y.2.2.2.2.2.drop (k0 + 1) := by
      rw [List.drop_eq_getElem_cons hxl]
      rw [(List.getElem?_eq_some_iff.mp hx).2]
    rw [← h8]
    exact h9
  refine vx_catch C.own _ _ _ (ht.trans hsp) (fun z hz => ?_) (by unfold covers; simp [hc.1, hc.2]) h0 (C.hts _ hl) (va_Nw.use rfl (C.env.2.2.2.2.1 _ hz rfl)) hce hcv hcl (k p l e R s m args below meth c D fz N0 C H locs cells slots lr V)
  obtain ⟨q, hq, rfl⟩ := List.mem_map.mp hz
  rcases hpass q hq with h | ⟨h1, nm, h2, h3⟩
  · refine Or.inl ?_
    unfold covers
    rcases h with h | h <;> simp <;> omega
  · exact Or.inr ⟨h1, nm, C.hts _ h2, C.env.2.2.2.1.2.2.2.2.2 _ h3⟩
end PWZ2
/-- a method with handlers: its contract, out of its walk from the entry -/
theorem pw_metH {Y : zY} {d : Nat} {P : zP} {mc ms : Nat} {As : List Value} {ls0 : List (Nat × Value)} {g : zg_G} {n : zg_N} (l : Launch) (hl : l.stackTraces = false) (D : zD) (fz : Nat → Nat) (N0 : Nat) (hy : plainName Y.1.cls = true) (hcls : Y.1.cls = Y.2.1) (hm : (lg_sl As).length ≤ Y.2.2.2.1) (hls : lv_args 0 As = ls0)
    (hc : PW Y d P mc ms 0 ls0 [] g n) : vx_Met l Y.1 (wsW_ Y.1 Y.2.2.1 Y.2.2.2.1 Y.2.2.2.2.1 Y.2.2.2.2.2) { frames := d, cells := mc, slots := ms, locals := 40 * d } (zPc D fz N0 As g n) (zQc D fz N0 P) (zXC D fz N0 P) mc ms (fun a => N0 ≤ a) := by
  refine vx_ofWH hy rfl ?_
  intro p e s m args below meth c s₁ B hml hv
  obtain ⟨rfl, hR, hE⟩ := hv
  have hts0 := atoms_spec (ws := wsW_ Y.1 Y.2.2.1 Y.2.2.2.1 Y.2.2.2.2.1 Y.2.2.2.2.2) B.pre
  have hts : ∀ w ∈ lw_all, w.before _ s = true := fun w h => hts0 w (List.mem_cons_of_mem _ h)
  have hown : s.vm.findClass Y.2.1 = some m.cls := by rw [← hcls]; exact findClass_of_methodNamed B.named
  have hm' : (lg_sl (As.map (zv_tr (zr fz N0)))).length ≤ Y.2.2.2.1 := by rw [zsl_len]; exact hm
  have hlv := lv_entry (As.map (zv_tr (zr fz N0))) (n := Y.2.2.2.1) hm'
  rw [lg_entry_eq]
  rw [zargs_map, hls] at hlv
  have htb : c.exceptionTable.toList = tableOf Y.2.2.2.2.2 := vx_table (x := Y.1) B (hts0 _ List.mem_cons_self)
  exact hc p l e _ s m _ below meth c D fz N0 ⟨B.exec, B.bytes, B.returns, hml, hts, hown, B.notSynchronized, (name_of_methodNamed B.named B.method).1, htb, hl, Nat.le_refl _, Nat.le_refl _, hE⟩ s.heap [] 0 0 _ ⟨hR, va_S.rf, hlv, by show 0 + mc ≤ mc; omega, by show 0 + ms ≤ ms; omega⟩
section PWCH
variable {Y Y2 : zY} {d d2 : Nat} {P P2 : zP} {bc bs bc1 bs1 k2 ks2 pc : Nat} {ls ls0 : List (Nat × Value)} {rest : List Value} {g : zg_G} {n : zg_N} {b ci idx : Nat} {C9 : String} {T9 : u_T} {N9 : Nat} {ty0 : Nat → FieldType}
theorem pw_callVxH1 {a1 : Value} (hM : zM Y2 1) (hG : GoodIn lw_all (wsV Y.2.1 idx C9 Y2.1 (wsW_ Y2.1 Y2.2.2.1 Y2.2.2.2.1 Y2.2.2.2.2.1 Y2.2.2.2.2.2))) (hC : Y2.2.1 = C9) (hs : zsh g b = some (.inl ci)) (hcf : zCF C9 T9 N9 ci ty0) (hc : PW Y2 d2 P2 k2 ks2 0 ls0 [] g n) (hd : d2 + 1 ≤ d) (hbc : bc1 + k2 ≤ bc) (hbs : bs1 + ks2 ≤ bs) (hls : lv_args 0 (.ref b :: [a1]) = ls0) (hm : (lg_sl (.ref b :: [a1])).length ≤ Y2.2.2.2.1) (hst : (rest.map fun v => v.category).sum ≤ 8) (dd : decode Y.2.2.1 pc = .ok (.invokevirtual idx, 3)) (kk : ∀ v g1 n1, P2 (.inl v) g1 n1 → PW Y d P bc1 bs1 (pc + 3) ls (v.toList ++ rest) g1 n1) (kx : ∀ E a g1 n1, P2 (.inr (E, a)) g1 n1 → PX Y d P bc1 bs1 pc ls E a g1 n1) : PW Y d P bc bs pc ls (a1 :: .ref b :: rest) g n := by
  intro p l e R s m args below meth c D fz N0 C H locs cells slots lr V
  have hf : d ≤ R.frames := C.2.2.2.2.2.2.2.2.2.2.1
  have hlo : 40 * d ≤ R.locals := C.2.2.2.2.2.2.2.2.2.2.2.1
  have h21 := hM.2.2.2.2.2
  refine zcall (P2 := P2) (mc := k2) (ms := ks2) (rest := rest.map (zv_tr (zr fz N0))) (vx_runVX (As := [zv_tr (zr fz N0) a1]) ⟨C.1, C.2.1, C.2.2.2.1, C.own, C.hts⟩ (pw_metH l C.2.2.2.2.2.2.2.2.2.1 D fz N0 hM.1 hM.2.1 hm hls hc) (vx_cwVW 1 C.hts hG rfl rfl rfl ⟨hM.2.1.trans hC, hM.2.2.1, hM.2.2.2.1, hM.2.2.2.2.1⟩ ⟨(by show d2 + 1 ≤ _; omega), (by show 8 + (_ + 11) + 40 * d2 ≤ _; omega)⟩) ⟨zPc_blind, zrecv C V.1 hs hcf, fun U hU hW => ⟨rfl, by rw [hU]; exact V.1, C.env.moved (by rw [hU]; exact V.2.1) hW⟩⟩ rfl rfl V.2.2.1.1 rfl (by show 2 * 0 + _ ≤ 8; rw [zcat_sum]; omega) dd ⟨(by have := V.2.2.2.1; omega), (by have := V.2.2.2.2; omega)⟩) V.2.1 (fun v g1 n1 H1 locs1 hp hR hS => by
    have h9 := kk v g1 n1 hp p l e R s m args below meth c D fz N0 C H1 locs1 (cells + k2) (slots + ks2) lr ⟨hR, hS, V.2.2.1, by have := V.2.2.2.1; omega, by have := V.2.2.2.2; omega⟩
    rw [List.map_append] at h9
    rw [show (v.toList.map (zv_tr (zr fz N0))) = (v.map (zv_tr (zr fz N0))).toList from by cases v <;> rfl] at h9
    exact h9) (fun E a g1 n1 ce H1 locs1 hp hR hS h1 h2 h3 h4 => kx E a g1 n1 hp p l e R s m args below meth c D fz N0 C H1 locs1 _ _ lr ⟨hR, hS, V.2.2.1, by have := V.2.2.2.1; omega, by have := V.2.2.2.2; omega⟩ ce _ h1 h2 h3 h4)
theorem pw_callSH2 {a1 a2 : Value} (hM : zM Y2 2) (hG : GoodIn lw_all (va_wsS Y.2.1 idx Y2.1 (wsW_ Y2.1 Y2.2.2.1 Y2.2.2.2.1 Y2.2.2.2.2.1 Y2.2.2.2.2.2))) (hc : PW Y2 d2 P2 k2 ks2 0 ls0 [] g n) (hd : d2 + 1 ≤ d) (hbc : bc1 + k2 ≤ bc) (hbs : bs1 + ks2 ≤ bs) (hls : lv_args 0 [a1, a2] = ls0) (hm : (lg_sl [a1, a2]).length ≤ Y2.2.2.2.1) (hst : (rest.map fun v => v.category).sum ≤ 8) (dd : decode Y.2.2.1 pc = .ok (.invokestatic idx, 3)) (hnx : ∀ E a g1 n1, ¬ P2 (.inr (E, a)) g1 n1) (kk : ∀ v g1 n1, P2 (.inl v) g1 n1 → PW Y d P bc1 bs1 (pc + 3) ls (v.toList ++ rest) g1 n1) : PW Y d P bc bs pc ls (a2 :: a1 :: rest) g n := by
  intro p l e R s m args below meth c D fz N0 C H locs cells slots lr V
  have hf : d ≤ R.frames := C.2.2.2.2.2.2.2.2.2.2.1
  have hlo : 40 * d ≤ R.locals := C.2.2.2.2.2.2.2.2.2.2.2.1
  have h21 := hM.2.2.2.2.2
  refine zcall (P2 := P2) (mc := k2) (ms := ks2) (rest := rest.map (zv_tr (zr fz N0))) (zrun_of (vx_runSW (As := [zv_tr (zr fz N0) a1, zv_tr (zr fz N0) a2]) ⟨C.1, C.2.1, C.2.2.2.1, C.own, C.hts⟩ (zmet0 (pw_metH l C.2.2.2.2.2.2.2.2.2.1 D fz N0 hM.1 hM.2.1 hm hls hc) hnx) (vx_cwSW 2 C.hts hG rfl rfl rfl ⟨hM.2.2.1, hM.2.2.2.1, hM.2.2.2.2.1⟩ ⟨(by show d2 + 1 ≤ _; omega), (by show 8 + (_ + 11) + 40 * d2 ≤ _; omega)⟩) ⟨zPc_blind, fun U hU hW => ⟨rfl, by rw [hU]; exact V.1, C.env.moved (by rw [hU]; exact V.2.1) hW⟩⟩ rfl rfl V.2.2.1.1 rfl (by show 2 * 0 + _ ≤ 8; rw [zcat_sum]; omega) dd ⟨(by have := V.2.2.2.1; omega), (by have := V.2.2.2.2; omega)⟩)) V.2.1 (fun v g1 n1 H1 locs1 hp hR hS => by
    have h9 := kk v g1 n1 hp p l e R s m args below meth c D fz N0 C H1 locs1 (cells + k2) (slots + ks2) lr ⟨hR, hS, V.2.2.1, by have := V.2.2.2.1; omega, by have := V.2.2.2.2; omega⟩
    rw [List.map_append] at h9
    rw [show (v.toList.map (zv_tr (zr fz N0))) = (v.map (zv_tr (zr fz N0))).toList from by cases v <;> rfl] at h9
    exact h9) (fun E a g1 n1 ce H1 locs1 hp hR hS h1 h2 h3 h4 => absurd hp (hnx _ _ _ _))
theorem pw_callSH3 {a1 a2 a3 : Value} (hM : zM Y2 3) (hG : GoodIn lw_all (va_wsS Y.2.1 idx Y2.1 (wsW_ Y2.1 Y2.2.2.1 Y2.2.2.2.1 Y2.2.2.2.2.1 Y2.2.2.2.2.2))) (hc : PW Y2 d2 P2 k2 ks2 0 ls0 [] g n) (hd : d2 + 1 ≤ d) (hbc : bc1 + k2 ≤ bc) (hbs : bs1 + ks2 ≤ bs) (hls : lv_args 0 [a1, a2, a3] = ls0) (hm : (lg_sl [a1, a2, a3]).length ≤ Y2.2.2.2.1) (hst : (rest.map fun v => v.category).sum ≤ 8) (dd : decode Y.2.2.1 pc = .ok (.invokestatic idx, 3)) (hnx : ∀ E a g1 n1, ¬ P2 (.inr (E, a)) g1 n1) (kk : ∀ v g1 n1, P2 (.inl v) g1 n1 → PW Y d P bc1 bs1 (pc + 3) ls (v.toList ++ rest) g1 n1) : PW Y d P bc bs pc ls (a3 :: a2 :: a1 :: rest) g n := by
  intro p l e R s m args below meth c D fz N0 C H locs cells slots lr V
  have hf : d ≤ R.frames := C.2.2.2.2.2.2.2.2.2.2.1
  have hlo : 40 * d ≤ R.locals := C.2.2.2.2.2.2.2.2.2.2.2.1
  have h21 := hM.2.2.2.2.2
  refine zcall (P2 := P2) (mc := k2) (ms := ks2) (rest := rest.map (zv_tr (zr fz N0))) (zrun_of (vx_runSW (As := [zv_tr (zr fz N0) a1, zv_tr (zr fz N0) a2, zv_tr (zr fz N0) a3]) ⟨C.1, C.2.1, C.2.2.2.1, C.own, C.hts⟩ (zmet0 (pw_metH l C.2.2.2.2.2.2.2.2.2.1 D fz N0 hM.1 hM.2.1 hm hls hc) hnx) (vx_cwSW 3 C.hts hG rfl rfl rfl ⟨hM.2.2.1, hM.2.2.2.1, hM.2.2.2.2.1⟩ ⟨(by show d2 + 1 ≤ _; omega), (by show 8 + (_ + 11) + 40 * d2 ≤ _; omega)⟩) ⟨zPc_blind, fun U hU hW => ⟨rfl, by rw [hU]; exact V.1, C.env.moved (by rw [hU]; exact V.2.1) hW⟩⟩ rfl rfl V.2.2.1.1 rfl (by show 2 * 0 + _ ≤ 8; rw [zcat_sum]; omega) dd ⟨(by have := V.2.2.2.1; omega), (by have := V.2.2.2.2; omega)⟩)) V.2.1 (fun v g1 n1 H1 locs1 hp hR hS => by
    have h9 := kk v g1 n1 hp p l e R s m args below meth c D fz N0 C H1 locs1 (cells + k2) (slots + ks2) lr ⟨hR, hS, V.2.2.1, by have := V.2.2.2.1; omega, by have := V.2.2.2.2; omega⟩
    rw [List.map_append] at h9
    rw [show (v.toList.map (zv_tr (zr fz N0))) = (v.map (zv_tr (zr fz N0))).toList from by cases v <;> rfl] at h9
    exact h9) (fun E a g1 n1 ce H1 locs1 hp hR hS h1 h2 h3 h4 => absurd hp (hnx _ _ _ _))
theorem pw_callSH4 {a1 a2 a3 a4 : Value} (hM : zM Y2 4) (hG : GoodIn lw_all (va_wsS Y.2.1 idx Y2.1 (wsW_ Y2.1 Y2.2.2.1 Y2.2.2.2.1 Y2.2.2.2.2.1 Y2.2.2.2.2.2))) (hc : PW Y2 d2 P2 k2 ks2 0 ls0 [] g n) (hd : d2 + 1 ≤ d) (hbc : bc1 + k2 ≤ bc) (hbs : bs1 + ks2 ≤ bs) (hls : lv_args 0 [a1, a2, a3, a4] = ls0) (hm : (lg_sl [a1, a2, a3, a4]).length ≤ Y2.2.2.2.1) (hst : (rest.map fun v => v.category).sum ≤ 8) (dd : decode Y.2.2.1 pc = .ok (.invokestatic idx, 3)) (hnx : ∀ E a g1 n1, ¬ P2 (.inr (E, a)) g1 n1) (kk : ∀ v g1 n1, P2 (.inl v) g1 n1 → PW Y d P bc1 bs1 (pc + 3) ls (v.toList ++ rest) g1 n1) : PW Y d P bc bs pc ls (a4 :: a3 :: a2 :: a1 :: rest) g n := by
  intro p l e R s m args below meth c D fz N0 C H locs cells slots lr V
  have hf : d ≤ R.frames := C.2.2.2.2.2.2.2.2.2.2.1
  have hlo : 40 * d ≤ R.locals := C.2.2.2.2.2.2.2.2.2.2.2.1
  have h21 := hM.2.2.2.2.2
  refine zcall (P2 := P2) (mc := k2) (ms := ks2) (rest := rest.map (zv_tr (zr fz N0))) (zrun_of (vx_runSW (As := [zv_tr (zr fz N0) a1, zv_tr (zr fz N0) a2, zv_tr (zr fz N0) a3, zv_tr (zr fz N0) a4]) ⟨C.1, C.2.1, C.2.2.2.1, C.own, C.hts⟩ (zmet0 (pw_metH l C.2.2.2.2.2.2.2.2.2.1 D fz N0 hM.1 hM.2.1 hm hls hc) hnx) (vx_cwSW 4 C.hts hG rfl rfl rfl ⟨hM.2.2.1, hM.2.2.2.1, hM.2.2.2.2.1⟩ ⟨(by show d2 + 1 ≤ _; omega), (by show 8 + (_ + 11) + 40 * d2 ≤ _; omega)⟩) ⟨zPc_blind, fun U hU hW => ⟨rfl, by rw [hU]; exact V.1, C.env.moved (by rw [hU]; exact V.2.1) hW⟩⟩ rfl rfl V.2.2.1.1 rfl (by show 2 * 0 + _ ≤ 8; rw [zcat_sum]; omega) dd ⟨(by have := V.2.2.2.1; omega), (by have := V.2.2.2.2; omega)⟩)) V.2.1 (fun v g1 n1 H1 locs1 hp hR hS => by
    have h9 := kk v g1 n1 hp p l e R s m args below meth c D fz N0 C H1 locs1 (cells + k2) (slots + ks2) lr ⟨hR, hS, V.2.2.1, by have := V.2.2.2.1; omega, by have := V.2.2.2.2; omega⟩
    rw [List.map_append] at h9
    rw [show (v.toList.map (zv_tr (zr fz N0))) = (v.map (zv_tr (zr fz N0))).toList from by cases v <;> rfl] at h9
    exact h9) (fun E a g1 n1 ce H1 locs1 hp hR hS h1 h2 h3 h4 => absurd hp (hnx _ _ _ _))
theorem pw_callSH5 {a1 a2 a3 a4 a5 : Value} (hM : zM Y2 5) (hG : GoodIn lw_all (va_wsS Y.2.1 idx Y2.1 (wsW_ Y2.1 Y2.2.2.1 Y2.2.2.2.1 Y2.2.2.2.2.1 Y2.2.2.2.2.2))) (hc : PW Y2 d2 P2 k2 ks2 0 ls0 [] g n) (hd : d2 + 1 ≤ d) (hbc : bc1 + k2 ≤ bc) (hbs : bs1 + ks2 ≤ bs) (hls : lv_args 0 [a1, a2, a3, a4, a5] = ls0) (hm : (lg_sl [a1, a2, a3, a4, a5]).length ≤ Y2.2.2.2.1) (hst : (rest.map fun v => v.category).sum ≤ 8) (dd : decode Y.2.2.1 pc = .ok (.invokestatic idx, 3)) (hnx : ∀ E a g1 n1, ¬ P2 (.inr (E, a)) g1 n1) (kk : ∀ v g1 n1, P2 (.inl v) g1 n1 → PW Y d P bc1 bs1 (pc + 3) ls (v.toList ++ rest) g1 n1) : PW Y d P bc bs pc ls (a5 :: a4 :: a3 :: a2 :: a1 :: rest) g n := by
  intro p l e R s m args below meth c D fz N0 C H locs cells slots lr V
  have hf : d ≤ R.frames := C.2.2.2.2.2.2.2.2.2.2.1
  have hlo : 40 * d ≤ R.locals := C.2.2.2.2.2.2.2.2.2.2.2.1
  have h21 := hM.2.2.2.2.2
  refine zcall (P2 := P2) (mc := k2) (ms := ks2) (rest := rest.map (zv_tr (zr fz N0))) (zrun_of (vx_runSW (As := [zv_tr (zr fz N0) a1, zv_tr (zr fz N0) a2, zv_tr (zr fz N0) a3, zv_tr (zr fz N0) a4, zv_tr (zr fz N0) a5]) ⟨C.1, C.2.1, C.2.2.2.1, C.own, C.hts⟩ (zmet0 (pw_metH l C.2.2.2.2.2.2.2.2.2.1 D fz N0 hM.1 hM.2.1 hm hls hc) hnx) (vx_cwSW 5 C.hts hG rfl rfl rfl ⟨hM.2.2.1, hM.2.2.2.1, hM.2.2.2.2.1⟩ ⟨(by show d2 + 1 ≤ _; omega), (by show 8 + (_ + 11) + 40 * d2 ≤ _; omega)⟩) ⟨zPc_blind, fun U hU hW => ⟨rfl, by rw [hU]; exact V.1, C.env.moved (by rw [hU]; exact V.2.1) hW⟩⟩ rfl rfl V.2.2.1.1 rfl (by show 2 * 0 + _ ≤ 8; rw [zcat_sum]; omega) dd ⟨(by have := V.2.2.2.1; omega), (by have := V.2.2.2.2; omega)⟩)) V.2.1 (fun v g1 n1 H1 locs1 hp hR hS => by
    have h9 := kk v g1 n1 hp p l e R s m args below meth c D fz N0 C H1 locs1 (cells + k2) (slots + ks2) lr ⟨hR, hS, V.2.2.1, by have := V.2.2.2.1; omega, by have := V.2.2.2.2; omega⟩
    rw [List.map_append] at h9
    rw [show (v.toList.map (zv_tr (zr fz N0))) = (v.map (zv_tr (zr fz N0))).toList from by cases v <;> rfl] at h9
    exact h9) (fun E a g1 n1 ce H1 locs1 hp hR hS h1 h2 h3 h4 => absurd hp (hnx _ _ _ _))
theorem pw_callSH6 {a1 a2 a3 a4 a5 a6 : Value} (hM : zM Y2 6) (hG : GoodIn lw_all (va_wsS Y.2.1 idx Y2.1 (wsW_ Y2.1 Y2.2.2.1 Y2.2.2.2.1 Y2.2.2.2.2.1 Y2.2.2.2.2.2))) (hc : PW Y2 d2 P2 k2 ks2 0 ls0 [] g n) (hd : d2 + 1 ≤ d) (hbc : bc1 + k2 ≤ bc) (hbs : bs1 + ks2 ≤ bs) (hls : lv_args 0 [a1, a2, a3, a4, a5, a6] = ls0) (hm : (lg_sl [a1, a2, a3, a4, a5, a6]).length ≤ Y2.2.2.2.1) (hst : (rest.map fun v => v.category).sum ≤ 8) (dd : decode Y.2.2.1 pc = .ok (.invokestatic idx, 3)) (hnx : ∀ E a g1 n1, ¬ P2 (.inr (E, a)) g1 n1) (kk : ∀ v g1 n1, P2 (.inl v) g1 n1 → PW Y d P bc1 bs1 (pc + 3) ls (v.toList ++ rest) g1 n1) : PW Y d P bc bs pc ls (a6 :: a5 :: a4 :: a3 :: a2 :: a1 :: rest) g n := by
  intro p l e R s m args below meth c D fz N0 C H locs cells slots lr V
  have hf : d ≤ R.frames := C.2.2.2.2.2.2.2.2.2.2.1
  have hlo : 40 * d ≤ R.locals := C.2.2.2.2.2.2.2.2.2.2.2.1
  have h21 := hM.2.2.2.2.2
  refine zcall (P2 := P2) (mc := k2) (ms := ks2) (rest := rest.map (zv_tr (zr fz N0))) (zrun_of (vx_runSW (As := [zv_tr (zr fz N0) a1, zv_tr (zr fz N0) a2, zv_tr (zr fz N0) a3, zv_tr (zr fz N0) a4, zv_tr (zr fz N0) a5, zv_tr (zr fz N0) a6]) ⟨C.1, C.2.1, C.2.2.2.1, C.own, C.hts⟩ (zmet0 (pw_metH l C.2.2.2.2.2.2.2.2.2.1 D fz N0 hM.1 hM.2.1 hm hls hc) hnx) (vx_cwSW 6 C.hts hG rfl rfl rfl ⟨hM.2.2.1, hM.2.2.2.1, hM.2.2.2.2.1⟩ ⟨(by show d2 + 1 ≤ _; omega), (by show 8 + (_ + 11) + 40 * d2 ≤ _; omega)⟩) ⟨zPc_blind, fun U hU hW => ⟨rfl, by rw [hU]; exact V.1, C.env.moved (by rw [hU]; exact V.2.1) hW⟩⟩ rfl rfl V.2.2.1.1 rfl (by show 2 * 0 + _ ≤ 8; rw [zcat_sum]; omega) dd ⟨(by have := V.2.2.2.1; omega), (by have := V.2.2.2.2; omega)⟩)) V.2.1 (fun v g1 n1 H1 locs1 hp hR hS => by
    have h9 := kk v g1 n1 hp p l e R s m args below meth c D fz N0 C H1 locs1 (cells + k2) (slots + ks2) lr ⟨hR, hS, V.2.2.1, by have := V.2.2.2.1; omega, by have := V.2.2.2.2; omega⟩
    rw [List.map_append] at h9
    rw [show (v.toList.map (zv_tr (zr fz N0))) = (v.map (zv_tr (zr fz N0))).toList from by cases v <;> rfl] at h9
    exact h9) (fun E a g1 n1 ce H1 locs1 hp hR hS h1 h2 h3 h4 => absurd hp (hnx _ _ _ _))
end PWCH

