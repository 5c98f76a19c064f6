/-! ===== new cells ===== -/
section PWN
variable {Y : zY} {d : Nat} {P : zP} {bc bs pc : Nat} {ls : List (Nat × Value)} {st : List Value} {g : zg_G} {n : zg_N}
theorem znw_sh {g : zg_G} {s : Nat ⊕ (Nat × Nat)} : zsh (znwG g s) (znx g) = some s := zu1_s
theorem znw_fi {n : zg_N} {a k : Nat} : zfi (znwN n a) a k = 0 := congrFun (zu1_s (f := n.1)) k
theorem znw_fl {n : zg_N} {a k : Nat} : zfl (znwN n a) a k = 0 := congrFun (zu1_s (f := n.2.1)) k
theorem znw_ai {n : zg_N} {a k : Nat} : zai (znwN n a) a k = 0 := congrFun (zu1_s (f := n.2.2.1)) k
theorem znw_al {n : zg_N} {a k : Nat} : zal (znwN n a) a k = 0 := congrFun (zu1_s (f := n.2.2.2)) k
theorem znw_fr {g : zg_G} {s : Nat ⊕ (Nat × Nat)} {k : Nat} : zfr (znwG g s) (znx g) k = none := congrFun (zu1_s (f := g.2.1)) k
theorem znw_ar {g : zg_G} {s : Nat ⊕ (Nat × Nat)} {k : Nat} : zar (znwG g s) (znx g) k = none := congrFun (zu1_s (f := g.2.2.1)) k
theorem zR.real {D : zD} {fz : Nat → Nat} {N0 : Nat} {g : zg_G} {n : zg_N} {H : Heap} (h : zR D fz N0 g n H) : zr fz N0 (znx g) = H.size := by rw [zr_hi h.1, h.2.1]
theorem zfv_new {ρ : Nat → Nat} {g : zg_G} {n : zg_N} {s : Nat ⊕ (Nat × Nat)} {k : Nat} {ty : FieldType} (hty : ty = .int ∨ ty = .long ∨ ty = .byte ∨ ty = .boolean ∨ (∃ z, ty = .object z) ∨ ∃ z, ty = .array z) : zfv ρ (znwG g s) (znwN n (znx g)) ty (znx g) k = defaultValue ty := by
  rcases hty with h | h | h | h | ⟨z, h⟩ | ⟨z, h⟩ <;> rw [h]
  · show Value.int (zfi (znwN n (znx g)) (znx g) k) = _; rw [znw_fi]; rfl
  · show Value.long (zfl (znwN n (znx g)) (znx g) k) = _; rw [znw_fl]; rfl
  · show Value.int (zfi (znwN n (znx g)) (znx g) k) = _; rw [znw_fi]; rfl
  · show Value.int (zfi (znwN n (znx g)) (znx g) k) = _; rw [znw_fi]; rfl
  · show va_rf ((zfr (znwG g s) (znx g) k).map ρ) = _; rw [znw_fr]; rfl
  · show va_rf ((zfr (znwG g s) (znx g) k).map ρ) = _; rw [znw_fr]; rfl
theorem zev_new {ρ : Nat → Nat} {g : zg_G} {n : zg_N} {s : Nat ⊕ (Nat × Nat)} {k : Nat} {ty : FieldType} (hty : ty = .int ∨ ty = .long ∨ ty = .byte ∨ ty = .boolean ∨ (∃ z, ty = .object z) ∨ ∃ z, ty = .array z) : zev ρ (znwG g s) (znwN n (znx g)) ty (znx g) k = defaultValue ty := by
  rcases hty with h | h | h | h | ⟨z, h⟩ | ⟨z, h⟩ <;> rw [h]
  · show Value.int (zai (znwN n (znx g)) (znx g) k) = _; rw [znw_ai]; rfl
  · show Value.long (zal (znwN n (znx g)) (znx g) k) = _; rw [znw_al]; rfl
  · show Value.int (zai (znwN n (znx g)) (znx g) k) = _; rw [znw_ai]; rfl
  · show Value.int (zai (znwN n (znx g)) (znx g) k) = _; rw [znw_ai]; rfl
  · show va_rf ((zar (znwG g s) (znx g) k).map ρ) = _; rw [znw_ar]; rfl
  · show va_rf ((zar (znwG g s) (znx g) k).map ρ) = _; rw [znw_ar]; rfl
def zOkT (ty : FieldType) : Bool := match ty with
  | .int => true | .long => true | .byte => true | .boolean => true | .object _ => true | .array _ => true | _ => false
theorem zOkT_of {ty : FieldType} (h : zOkT ty = true) : ty = .int ∨ ty = .long ∨ ty = .byte ∨ ty = .boolean ∨ (∃ z, ty = .object z) ∨ ∃ z, ty = .array z := by
  cases ty <;> simp [zOkT] at h ⊢
theorem pw_new {C9 : String} {T9 : u_T} {N9 ci idx : Nat} {ty0 : Nat → FieldType} (hcf : zCF C9 T9 N9 ci ty0) (hcl : Cond.classLink Y.2.1 idx C9 ∈ lw_all) (hinst : Cond.instantiable C9 N9 ∈ lw_all) (hini : Cond.initialized C9 ∈ lw_all) (hok : ∀ k, k < N9 → zOkT (ty0 k) = true) (dd : decode Y.2.2.1 pc = .ok (.new idx, 3))
    (kk : PW Y d P bc bs (pc + 3) ls (.ref (znx g) :: st) (znwG g (.inl ci)) (znwN n (znx g))) : PW Y d P (bc + 1) (bs + N9) pc ls st g n := by
  intro p l e R s m args below meth c D fz N0 C H locs cells slots lr V
  obtain ⟨hc, hin, hty, hnm, hct⟩ := id hcf
  have hKn := C.env.K.1 ci _ hc
  have hre := V.1.real
  refine W.newcK C.1 C.2.1 C.own (C.hts _ hcl) (C.hts _ hinst) (C.hts _ hini) rfl dd (by have := V.2.2.2.1; omega) (by have := V.2.2.2.2; omega) hKn.2.1 rfl fun H1 kC hkC e1 z1 o1 => ?_
  rw [← hre] at e1
  have := kk p l e R s m args below meth c D fz N0 C H1 locs (cells + 1) (slots + N9) lr ⟨V.1.push C.env.lo (z1.trans rfl) o1 (zAt.ofObj znw_sh hcf ((u_born ty0 C.hts hin hKn hkC e1 hty).to (fun k hk => (zfv_new (zOkT_of (hok k hk))).symm))), zS.grow V.2.1 (by omega) o1, V.2.2.1, by have := V.2.2.2.1; omega, by have := V.2.2.2.2; omega⟩
  rw [List.map_cons, show zv_tr (zr fz N0) (.ref (znx g)) = .ref H.size from congrArg Value.ref hre] at this
  exact this
theorem pw_newa {at9 : ArrayType} (kd N : Nat) (ty : FieldType) (hty : newarray.typeOf at9 = ty) (hk : zAk[kd]? = some ty) (hk7 : kd < 4) (harr : Cond.arrayClass ty ∈ lw_all) (hok : zOkT ty = true) (hN : N ≤ 60000) (dd : decode Y.2.2.1 pc = .ok (.newarray at9, 2))
    (kk : PW Y d P bc bs (pc + 2) ls (.ref (znx g) :: st) (znwG g (.inr (kd, N))) (znwN n (znx g))) : PW Y d P (bc + 1) (bs + N) pc ls (.int (nI N) :: st) g n := by
  intro p l e R s m args below meth c D fz N0 C H locs cells slots lr V
  have hre := V.1.real
  subst hty
  have hb : N * componentBytes (newarray.typeOf at9) ≤ 536870912 := by
    have h8 : componentBytes (newarray.typeOf at9) ≤ 8 := by cases at9 <;> decide
    exact Nat.le_trans (Nat.mul_le_mul hN h8) (by decide)
  refine va_newaK C.1 C.2.1 (C.hts _ harr) rfl dd rfl (nI_pos (by omega)) (nI_clamp (by omega)) hb (by have := V.2.2.2.1; omega) (by have := V.2.2.2.2; omega) rfl fun H1 cA e1 z1 o1 hAr hNm => ?_
  have hcA : cA = D.2 kd := by
    have h9 := (C.env.1.2 kd _ hk).2 (by omega)
    have h8 : s.vm.findClass ("[" ++ (newarray.typeOf at9).toString) = some (D.2 kd) := by
      revert h9
      cases at9 <;> exact id
    exact Option.some.inj (hNm.symm.trans h8)
  subst hcA
  have e1 : H1[zr fz N0 (znx g)]? = some (arrV (D.2 kd) N (fun j => zev (zr fz N0) (znwG g (.inr (kd, N))) (znwN n (znx g)) (newarray.typeOf at9) (znx g) j)) := by
    rw [hre, e1]
    congr 2
    funext j
    exact (zev_new (zOkT_of hok)).symm
  have := kk p l e R s m args below meth c D fz N0 C H1 locs (cells + 1) (slots + N) lr ⟨V.1.push C.env.lo (z1.trans rfl) o1 (zAt.ofArr znw_sh hk e1), zS.grow V.2.1 (by omega) o1, V.2.2.1, by have := V.2.2.2.1; omega, by have := V.2.2.2.2; omega⟩
  rw [List.map_cons, show zv_tr (zr fz N0) (.ref (znx g)) = .ref H.size from congrArg Value.ref hre] at this
  exact this
theorem pw_objInit {a idx : Nat} (hlink : Cond.methodLink Y.2.1 idx Lib.objectInit ∈ lw_all) (hinst : Cond.instanceMethod Lib.objectInit ∈ lw_all) (hcode : Cond.code Lib.objectInit ⟨#[0xb1]⟩ 1 none ∈ lw_all) (hd : 2 ≤ d) (hst : (st.map fun v => v.category).sum ≤ 8) (dd : decode Y.2.2.1 pc = .ok (.invokespecial idx, 3))
    (kk : PW Y d P bc bs (pc + 3) ls st g n) : PW Y d P bc bs pc ls (.ref a :: st) g n := by
  intro p l e R s m args below meth c D fz N0 C H locs cells slots lr V
  have hst' : ((st.map (zv_tr (zr fz N0))).map fun v => v.category).sum ≤ 8 := by
    rw [List.map_map]
    rw [show ((fun v => v.category) ∘ zv_tr (zr fz N0)) = (fun v : Value => v.category) from funext fun v => zv_cat _ v]
    exact hst
  have h1 : d ≤ R.frames := C.2.2.2.2.2.2.2.2.2.2.1
  have h2 : 40 * d ≤ R.locals := C.2.2.2.2.2.2.2.2.2.2.2.1
  exact W.objInit C.1 C.2.1 C.own (C.hts _ hlink) (C.hts _ hinst) (C.hts _ hcode) rfl (V.2.2.1.1.trans C.2.2.2.1.symm) rfl dd (by omega) (by show 2 * 0 + _ + 12 ≤ _; omega) (kk p l e R s m args below meth c D fz N0 C H locs cells slots lr V)
end PWN
/-! ===== calls ===== -/
theorem zMv_ok {w : Cond} (h : zMv w = true) : w.onTables = true := by
  cases w <;> simp [zMv] at h <;> rfl
theorem zMv_warm {w : Cond} (h : zMv w = true) {s U : State} (hW : s.WarmedH U.vm) (hZ : va_Nw w s) : va_Nw w U := by
  cases w <;> simp [zMv] at h
  all_goals first
    | exact va_Nw.warmC hW hZ
    | exact va_Nw.warmF hW hZ
    | exact va_Nw.warmM hW hZ
    | exact va_Nw.warmD hW hZ
theorem zEnv.moved {D : zD} {fz : Nat → Nat} {N0 : Nat} {s U : State} {locs : List Loc} (h : zEnv D fz N0 s) (hS : va_S (fun a => N0 ≤ a) s.heap U.heap locs) (hW : s.WarmedH U.vm) : zEnv D fz N0 U := by
  obtain ⟨⟨h1, h2⟩, h3, h4, ⟨h5, h6, h7, h8, h11, h12⟩, h9, h10⟩ := h
  have hal := hW.alike
  refine ⟨⟨va_K.moved hal h1, fun kd ty hk => ⟨arrOfT_moved hal (h2 kd ty hk).1, fun h => ((h2 kd ty hk).2 h).moved hal⟩⟩, Nat.le_trans h3 hS.1, h4, ⟨fun q hq => va_Z.moved hal ((h5 q hq).kept hS.2.1), fun q hq => (h6 q hq).warm hW, vx_Zq.moved hal (h7.kept hS.2.1), vx_Zq.moved hal (h8.kept hS.2.1), va_Mi.moved hal h11, fun q hq => va_Nc.moved hal (h12 q hq)⟩, fun w hw hm => zMv_warm hm hW (h9 w hw hm), fun C hC => (h10 C hC).moved hal⟩
/-- a method's contract, out of its walk from the entry -/
def zPc (D : zD) (fz : Nat → Nat) (N0 : Nat) (As : List Value) (g : zg_G) (n : zg_N) : Array Value → State → Prop :=
  va_Pc (As.map (zv_tr (zr fz N0))) (fun U => zR D fz N0 g n U.heap ∧ zEnv D fz N0 U)
theorem zargs_map (ρ : Nat → Nat) : ∀ (i : Nat) (As : List Value), lv_args i (As.map (zv_tr ρ)) = (lv_args i As).map fun q => (q.1, zv_tr ρ q.2)
  | _, [] => rfl
  | i, v :: vs => by
    simp only [List.map_cons, lv_args, zv_cat]
    rw [zargs_map ρ]
theorem zsl_len (ρ : Nat → Nat) : ∀ (As : List Value), (lg_sl (As.map (zv_tr ρ))).length = (lg_sl As).length
  | [] => rfl
  | v :: vs => by
    have := zsl_len ρ vs
    cases v <;> simp_all [lg_sl, zv_tr, Value.category]
theorem zPc_blind {D : zD} {fz : Nat → Nat} {N0 : Nat} {As : List Value} {g : zg_G} {n : zg_N} : FrameBlind (zPc D fz N0 As g n) := by
  intro a U g9 mk h
  obtain ⟨h1, h2, h3⟩ := h
  exact ⟨h1, h2, h3.moved (U := U.calling g9 mk a) (locs := []) ⟨Nat.le_refl _, fun _ _ _ => rfl, fun _ h => nomatch h⟩ (State.WarmedH.refl U)⟩
theorem pw_met {Y : zY} {d : Nat} {P : zP} {mc ms : Nat} {As : List Value} {ls0 : List (Nat × Value)} {g : zg_G} {n : zg_N} (l : Launch) (hl : l.stackTraces = false) (D : zD) (fz : Nat → Nat) (N0 : Nat) (hy : plainName Y.1.cls = true) (hcls : Y.1.cls = Y.2.1) (hh : Y.2.2.2.2.2 = []) (hm : (lg_sl As).length ≤ Y.2.2.2.1) (hls : lv_args 0 As = ls0)
    (hc : PW Y d P mc ms 0 ls0 [] g n) : vx_Met l Y.1 (ws_ Y.1 Y.2.2.1 Y.2.2.2.1 Y.2.2.2.2.1) { frames := d, cells := mc, slots := ms, locals := 40 * d } (zPc D fz N0 As g n) (zQc D fz N0 P) (zXC D fz N0 P) mc ms (fun a => N0 ≤ a) := by
  refine vx_ofW hy rfl ?_
  intro p e s m args below meth c s₁ B hml ht hv
  obtain ⟨rfl, hR, hE⟩ := hv
  have hts := atoms_spec (ws := ws_ Y.1 Y.2.2.1 Y.2.2.2.1 Y.2.2.2.2.1) B.pre
  have hts : ∀ w ∈ lw_all, w.before _ s = true := fun w h => hts w (List.mem_cons_of_mem _ h)
  have hown : s.vm.findClass Y.2.1 = some m.cls := by rw [← hcls]; exact findClass_of_methodNamed B.named
  have hm' : (lg_sl (As.map (zv_tr (zr fz N0)))).length ≤ Y.2.2.2.1 := by rw [zsl_len]; exact hm
  have hlv := lv_entry (As.map (zv_tr (zr fz N0))) (n := Y.2.2.2.1) hm'
  rw [lg_entry_eq]
  rw [zargs_map, hls] at hlv
  have htb : c.exceptionTable.toList = tableOf Y.2.2.2.2.2 := by
    rw [hh]
    exact List.eq_nil_iff_forall_not_mem.mpr ht
  exact hc p l e _ s m _ below meth c D fz N0 ⟨B.exec, B.bytes, B.returns, hml, hts, hown, B.notSynchronized, (name_of_methodNamed B.named B.method).1, htb, hl, Nat.le_refl _, Nat.le_refl _, hE⟩ s.heap [] 0 0 _ ⟨hR, va_S.rf, hlv, by show 0 + mc ≤ mc; omega, by show 0 + ms ≤ ms; omega⟩
/-- what a method is: fit to be called with k arguments -/
def zM (Y : zY) (k : Nat) : Prop := plainName Y.1.cls = true ∧ Y.1.cls = Y.2.1 ∧ Y.1.cls ≠ "java/lang/invoke/MethodHandle" ∧ Y.1.cls ≠ "java/lang/invoke/VarHandle" ∧ (parseMethodDescriptor Y.1.desc).map (fun d => d.parameters.length) = some k ∧ Y.2.2.2.1 ≤ 21
/-- ends with this value and this heap, nothing thrown -/
def zE (v : Option Value) (g : zg_G) (n : zg_N) : zP := fun o g1 n1 => o = .inl v ∧ g1 = g ∧ n1 = n
theorem zE.nx {v : Option Value} {g : zg_G} {n : zg_N} : ∀ E a g1 n1, ¬ zE v g n (.inr (E, a)) g1 n1 := fun _ _ _ _ h => nomatch h.1
section ZCALL
variable {p : Program} {l : Launch} {e : Env} {R : Room} {s : State} {m : MethodId} {args : Array Value} {below : List Frame} {meth : Method} {c : Code} {H : Heap} {locs : List Loc} {cells slots mc ms pc N0 : Nat} {Q : State → Prop} {lr : Array Slot} {st0 rest : List Value} {D : zD} {fz : Nat → Nat} {P2 : zP} {a9 : Array Value}
theorem zcall (hr : vx_Run p l e R s m args below meth c H locs cells slots mc ms (F0 m pc lr st0) rest (zQc D fz N0 P2 a9) (zXC D fz N0 P2) (fun a => N0 ≤ a)) (hS : va_S (fun a => N0 ≤ a) s.heap H locs)
    (kk : ∀ (v : Option Value) (g : zg_G) (n : zg_N) (H1 : Heap) (locs1 : List Loc), P2 (.inl v) g n → zR D fz N0 g n H1 → va_S (fun a => N0 ≤ a) s.heap H1 locs1 → W p l e R s m args below meth c H1 locs1 (cells + mc) (slots + ms) Q (F0 m (pc + 3) lr ((v.map (zv_tr (zr fz N0))).toList ++ rest)))
    (kx : ∀ (E : String) (a : Nat) (g : zg_G) (n : zg_N) (ce : Cell) (H1 : Heap) (locs1 : List Loc), P2 (.inr (E, a)) g n → zR D fz N0 g n H1 → va_S (fun a => N0 ≤ a) s.heap H1 locs1 → H1[zr fz N0 a]? = some ce → ce.vm = .none → s.vm.findClass E = some ce.cls → zK ≤ a → vx_W p l e R s m args below meth c H1 locs1 (cells + mc) (slots + ms) Q (F0 m pc lr rest) (zr fz N0 a)) :
    W p l e R s m args below meth c H locs cells slots Q (F0 m pc lr st0) := by
  intro T hT X
  rcases hr T hT X with ⟨v, st₀, t, T', L, h0, X', hL, e1, e2, ⟨v1, g, n, hv, hp, hR, hF⟩, st⟩ | ⟨q, st₀, t, T', L, E, ce, h0, X', hL, e1, e2, ⟨a, g, n, hq, ha, hp, hR, hF⟩, hce, hcv, hcl, st⟩
  · cases hv
    obtain ⟨k1, k2, k3⟩ := vx_keep h0 e1 hS (fun _ _ h => h) (fun _ h => h) hL hF
    obtain ⟨t2, a1, b1⟩ := kk v1 g n T'.heap (locs ++ L) hp (by rw [e1]; exact hR) k3 T' rfl X'
    exact ⟨t2, st t2 a1, b1⟩
  · obtain ⟨k1, k2, k3⟩ := vx_keep h0 e1 hS (fun _ _ h => h) (fun _ h => h) hL hF
    subst hq
    obtain ⟨t2, a1, b1⟩ := kx E a g n ce T'.heap (locs ++ L) hp (by rw [e1]; exact hR) k3 (by rw [e1]; exact hce) hcv hcl ha T' rfl X'
    exact ⟨t2, st.trans a1, b1⟩
theorem zrun_of {Qa : State → Outcome → State → Prop} {XC : String → Addr → State → State → Prop} {free : Addr → Prop} {g : JFrame} (h : va_Run p l e R s m args below meth c H locs cells slots mc ms g rest Qa free) : vx_Run p l e R s m args below meth c H locs cells slots mc ms g rest Qa XC free := fun T hT X => Or.inl (h T hT X)
theorem zmet0 {y : MethodName} {ws : List Cond} {rm : Room} {Pc : Array Value → State → Prop} (h : vx_Met l y ws rm Pc (zQc D fz N0 P2) (zXC D fz N0 P2) mc ms (fun a => N0 ≤ a)) (hn : ∀ E a g n, ¬ P2 (.inr (E, a)) g n) : Met l y ws rm Pc (zQc D fz N0 P2) mc ms (fun a => N0 ≤ a) := by
  refine MetFree.mono h (fun _ _ h => h) (fun _ _ _ _ _ h => h) (fun _ _ _ _ _ h => ?_)
  rcases h with h | ⟨q, -, E, ce, L, ⟨a, g, n, -, -, hp, -⟩, -⟩
  · exact h
  · exact absurd hp (hn _ _ _ _)
end ZCALL
theorem zcat_sum (ρ : Nat → Nat) (st : List Value) : ((st.map (zv_tr ρ)).map fun v => v.category).sum = (st.map fun v => v.category).sum := by
  rw [List.map_map]
  rw [show ((fun v => v.category) ∘ zv_tr ρ) = (fun v : Value => v.category) from funext fun v => zv_cat _ v]
theorem zrecv {Y : zY} {d : Nat} {p : Program} {l : Launch} {R : Room} {s : State} {m : MethodId} {args : Array Value} {meth : Method} {c : Code} {D : zD} {fz : Nat → Nat} {N0 : Nat} {g : zg_G} {n : zg_N} {H : Heap} {b ci : Nat} {C9 : String} {T9 : u_T} {N9 : Nat} {ty0 : Nat → FieldType} (C : zC Y d p l R s m args meth c D fz N0) (hR : zR D fz N0 g n H) (hs : zsh g b = some (.inl ci)) (hcf : zCF C9 T9 N9 ci ty0) :
    ∃ cellB : Cell, H[zr fz N0 b]? = some cellB ∧ cellB.vm.isStatics = false ∧ s.vm.findClass C9 = some cellB.cls := by
  obtain ⟨cell, q1, q2, q3, q4, q5, q6⟩ := (hR.2.2.2.1 b).obj hs hcf
  exact ⟨cell, q1, q4, by rw [q2]; exact (C.env.K.1 ci _ hcf.1).2.1⟩
section PWC
variable {Y Y2 : zY} {d d2 : Nat} {P P2 : zP} {bc bs bc1 bs1 k2 ks2 pc : Nat} {ls ls0 : List (Nat × Value)} {rest : List Value} {g : zg_G} {n : zg_N} {b ci idx : Nat} {C9 : String} {T9 : u_T} {N9 : Nat} {ty0 : Nat → FieldType}
theorem pw_callV0 (hM : zM Y2 0) (hh : Y2.2.2.2.2.2 = []) (hG : GoodIn lw_all (wsV Y.2.1 idx C9 Y2.1 (ws_ Y2.1 Y2.2.2.1 Y2.2.2.2.1 Y2.2.2.2.2.1))) (hC : Y2.2.1 = C9) (hs : zsh g b = some (.inl ci)) (hcf : zCF C9 T9 N9 ci ty0) (hc : PW Y2 d2 P2 k2 ks2 0 ls0 [] g n) (hd : d2 + 1 ≤ d) (hbc : bc1 + k2 ≤ bc) (hbs : bs1 + ks2 ≤ bs) (hls : lv_args 0 (.ref b :: []) = ls0) (hm : (lg_sl (.ref b :: [])).length ≤ Y2.2.2.2.1) (hst : (rest.map fun v => v.category).sum ≤ 8) (dd : decode Y.2.2.1 pc = .ok (.invokevirtual idx, 3)) (hnx : ∀ E a g1 n1, ¬ P2 (.inr (E, a)) g1 n1) (kk : ∀ v g1 n1, P2 (.inl v) g1 n1 → PW Y d P bc1 bs1 (pc + 3) ls (v.toList ++ rest) g1 n1)  : PW Y d P bc bs pc ls (.ref b :: rest) g n := by
  intro p l e R s m args below meth c D fz N0 C H locs cells slots lr V
  have hf : d ≤ R.frames := C.2.2.2.2.2.2.2.2.2.2.1
  have hlo : 40 * d ≤ R.locals := C.2.2.2.2.2.2.2.2.2.2.2.1
  have h21 := hM.2.2.2.2.2
  refine zcall (P2 := P2) (mc := k2) (ms := ks2) (rest := rest.map (zv_tr (zr fz N0))) (zrun_of (va_runV (As := []) ⟨C.1, C.2.1, C.2.2.2.1, C.own, C.hts⟩ (zmet0 (pw_met l C.2.2.2.2.2.2.2.2.2.1 D fz N0 hM.1 hM.2.1 hh hm hls hc) hnx) (cwV 0 C.hts hG rfl rfl rfl ⟨hM.2.1.trans hC, hM.2.2.1, hM.2.2.2.1, hM.2.2.2.2.1⟩ ⟨(by show d2 + 1 ≤ _; omega), (by show 8 + (_ + 11) + 40 * d2 ≤ _; omega)⟩) ⟨zPc_blind, zrecv C V.1 hs hcf, fun U hU hW => ⟨rfl, by rw [hU]; exact V.1, C.env.moved (by rw [hU]; exact V.2.1) hW⟩⟩ rfl rfl V.2.2.1.1 rfl (by show 2 * 0 + _ ≤ 8; rw [zcat_sum]; omega) dd ⟨(by have := V.2.2.2.1; omega), (by have := V.2.2.2.2; omega)⟩)) V.2.1 (fun v g1 n1 H1 locs1 hp hR hS => by
    have h9 := kk v g1 n1 hp p l e R s m args below meth c D fz N0 C H1 locs1 (cells + k2) (slots + ks2) lr ⟨hR, hS, V.2.2.1, by have := V.2.2.2.1; omega, by have := V.2.2.2.2; omega⟩
    rw [List.map_append] at h9
    rw [show (v.toList.map (zv_tr (zr fz N0))) = (v.map (zv_tr (zr fz N0))).toList from by cases v <;> rfl] at h9
    exact h9) (fun E a g1 n1 ce H1 locs1 hp hR hS h1 h2 h3 h4 => absurd hp (hnx _ _ _ _))
theorem pw_callVx0 (hM : zM Y2 0) (hh : Y2.2.2.2.2.2 = []) (hG : GoodIn lw_all (wsV Y.2.1 idx C9 Y2.1 (ws_ Y2.1 Y2.2.2.1 Y2.2.2.2.1 Y2.2.2.2.2.1))) (hC : Y2.2.1 = C9) (hs : zsh g b = some (.inl ci)) (hcf : zCF C9 T9 N9 ci ty0) (hc : PW Y2 d2 P2 k2 ks2 0 ls0 [] g n) (hd : d2 + 1 ≤ d) (hbc : bc1 + k2 ≤ bc) (hbs : bs1 + ks2 ≤ bs) (hls : lv_args 0 (.ref b :: []) = ls0) (hm : (lg_sl (.ref b :: [])).length ≤ Y2.2.2.2.1) (hst : (rest.map fun v => v.category).sum ≤ 8) (dd : decode Y.2.2.1 pc = .ok (.invokevirtual idx, 3))  (kk : ∀ v g1 n1, P2 (.inl v) g1 n1 → PW Y d P bc1 bs1 (pc + 3) ls (v.toList ++ rest) g1 n1) (kx : ∀ E a g1 n1, P2 (.inr (E, a)) g1 n1 → PX Y d P bc1 bs1 pc ls E a g1 n1) : PW Y d P bc bs pc ls (.ref b :: rest) g n := by
  intro p l e R s m args below meth c D fz N0 C H locs cells slots lr V
  have hf : d ≤ R.frames := C.2.2.2.2.2.2.2.2.2.2.1
  have hlo : 40 * d ≤ R.locals := C.2.2.2.2.2.2.2.2.2.2.2.1
  have h21 := hM.2.2.2.2.2
  refine zcall (P2 := P2) (mc := k2) (ms := ks2) (rest := rest.map (zv_tr (zr fz N0))) (vx_runV (As := []) ⟨C.1, C.2.1, C.2.2.2.1, C.own, C.hts⟩ (pw_met l C.2.2.2.2.2.2.2.2.2.1 D fz N0 hM.1 hM.2.1 hh hm hls hc) (cwV 0 C.hts hG rfl rfl rfl ⟨hM.2.1.trans hC, hM.2.2.1, hM.2.2.2.1, hM.2.2.2.2.1⟩ ⟨(by show d2 + 1 ≤ _; omega), (by show 8 + (_ + 11) + 40 * d2 ≤ _; omega)⟩) ⟨zPc_blind, zrecv C V.1 hs hcf, fun U hU hW => ⟨rfl, by rw [hU]; exact V.1, C.env.moved (by rw [hU]; exact V.2.1) hW⟩⟩ rfl rfl V.2.2.1.1 rfl (by show 2 * 0 + _ ≤ 8; rw [zcat_sum]; omega) dd ⟨(by have := V.2.2.2.1; omega), (by have := V.2.2.2.2; omega)⟩) V.2.1 (fun v g1 n1 H1 locs1 hp hR hS => by
    have h9 := kk v g1 n1 hp p l e R s m args below meth c D fz N0 C H1 locs1 (cells + k2) (slots + ks2) lr ⟨hR, hS, V.2.2.1, by have := V.2.2.2.1; omega, by have := V.2.2.2.2; omega⟩
    rw [List.map_append] at h9
    rw [show (v.toList.map (zv_tr (zr fz N0))) = (v.map (zv_tr (zr fz N0))).toList from by cases v <;> rfl] at h9
    exact h9) (fun E a g1 n1 ce H1 locs1 hp hR hS h1 h2 h3 h4 => kx E a g1 n1 hp p l e R s m args below meth c D fz N0 C H1 locs1 _ _ lr ⟨hR, hS, V.2.2.1, by have := V.2.2.2.1; omega, by have := V.2.2.2.2; omega⟩ ce _ h1 h2 h3 h4)
theorem pw_callU0 (hM : zM Y2 0) (hh : Y2.2.2.2.2.2 = []) {x : MethodName} {owner : String} (hG : GoodIn lw_all (va_wsU Y.2.1 idx C9 owner x Y2.1 (ws_ Y2.1 Y2.2.2.1 Y2.2.2.2.1 Y2.2.2.2.2.1))) (hx : Y2.1 = ⟨owner, x.name, x.desc⟩) (ho : owner ≠ "java/lang/invoke/MethodHandle" ∧ owner ≠ "java/lang/invoke/VarHandle" ∧ (parseMethodDescriptor x.desc).map (fun d => d.parameters.length) = some 0) (hs : zsh g b = some (.inl ci)) (hcf : zCF C9 T9 N9 ci ty0) (hc : PW Y2 d2 P2 k2 ks2 0 ls0 [] g n) (hd : d2 + 1 ≤ d) (hbc : bc1 + k2 ≤ bc) (hbs : bs1 + ks2 ≤ bs) (hls : lv_args 0 (.ref b :: []) = ls0) (hm : (lg_sl (.ref b :: [])).length ≤ Y2.2.2.2.1) (hst : (rest.map fun v => v.category).sum ≤ 8) (dd : decode Y.2.2.1 pc = .ok (.invokevirtual idx, 3)) (hnx : ∀ E a g1 n1, ¬ P2 (.inr (E, a)) g1 n1) (kk : ∀ v g1 n1, P2 (.inl v) g1 n1 → PW Y d P bc1 bs1 (pc + 3) ls (v.toList ++ rest) g1 n1)  : PW Y d P bc bs pc ls (.ref b :: rest) g n := by
  intro p l e R s m args below meth c D fz N0 C H locs cells slots lr V
  have hf : d ≤ R.frames := C.2.2.2.2.2.2.2.2.2.2.1
  have hlo : 40 * d ≤ R.locals := C.2.2.2.2.2.2.2.2.2.2.2.1
  have h21 := hM.2.2.2.2.2
  refine zcall (P2 := P2) (mc := k2) (ms := ks2) (rest := rest.map (zv_tr (zr fz N0))) (zrun_of (va_runU (As := []) ⟨C.1, C.2.1, C.2.2.2.1, C.own, C.hts⟩ (zmet0 (pw_met l C.2.2.2.2.2.2.2.2.2.1 D fz N0 hM.1 hM.2.1 hh hm hls hc) hnx) (va_cwU 0 C.hts hG rfl rfl rfl hx ho ⟨(by show d2 + 1 ≤ _; omega), (by show 8 + (_ + 11) + 40 * d2 ≤ _; omega)⟩) ⟨zPc_blind, zrecv C V.1 hs hcf, fun U hU hW => ⟨rfl, by rw [hU]; exact V.1, C.env.moved (by rw [hU]; exact V.2.1) hW⟩⟩ rfl rfl V.2.2.1.1 rfl (by show 2 * 0 + _ ≤ 8; rw [zcat_sum]; omega) dd ⟨(by have := V.2.2.2.1; omega), (by have := V.2.2.2.2; omega)⟩)) V.2.1 (fun v g1 n1 H1 locs1 hp hR hS => by
    have h9 := kk v g1 n1 hp p l e R s m args below meth c D fz N0 C H1 locs1 (cells + k2) (slots + ks2) lr ⟨hR, hS, V.2.2.1, by have := V.2.2.2.1; omega, by have := V.2.2.2.2; omega⟩
    rw [List.map_append] at h9
    rw [show (v.toList.map (zv_tr (zr fz N0))) = (v.map (zv_tr (zr fz N0))).toList from by cases v <;> rfl] at h9
    exact h9) (fun E a g1 n1 ce H1 locs1 hp hR hS h1 h2 h3 h4 => absurd hp (hnx _ _ _ _))
theorem pw_callA0 (hM : zM Y2 0) (hh : Y2.2.2.2.2.2 = []) {x : MethodName} {owner : String} (hG : GoodIn lw_all (va_wsU Y.2.1 idx C9 owner x Y2.1 (ws_ Y2.1 Y2.2.2.1 Y2.2.2.2.1 Y2.2.2.2.2.1))) (hz : Cond.declares ⟨owner, x.name, x.desc⟩ ∈ lw_tbl) (ho : owner ≠ "java/lang/invoke/MethodHandle" ∧ owner ≠ "java/lang/invoke/VarHandle" ∧ (parseMethodDescriptor x.desc).map (fun d => d.parameters.length) = some 0) (hs : zsh g b = some (.inl ci)) (hcf : zCF C9 T9 N9 ci ty0) (hc : PW Y2 d2 P2 k2 ks2 0 ls0 [] g n) (hd : d2 + 1 ≤ d) (hbc : bc1 + k2 ≤ bc) (hbs : bs1 + ks2 ≤ bs) (hls : lv_args 0 (.ref b :: []) = ls0) (hm : (lg_sl (.ref b :: [])).length ≤ Y2.2.2.2.1) (hst : (rest.map fun v => v.category).sum ≤ 8) (dd : decode Y.2.2.1 pc = .ok (.invokevirtual idx, 3)) (hnx : ∀ E a g1 n1, ¬ P2 (.inr (E, a)) g1 n1) (kk : ∀ v g1 n1, P2 (.inl v) g1 n1 → PW Y d P bc1 bs1 (pc + 3) ls (v.toList ++ rest) g1 n1)  : PW Y d P bc bs pc ls (.ref b :: rest) g n := by
  intro p l e R s m args below meth c D fz N0 C H locs cells slots lr V
  have hf : d ≤ R.frames := C.2.2.2.2.2.2.2.2.2.2.1
  have hlo : 40 * d ≤ R.locals := C.2.2.2.2.2.2.2.2.2.2.2.1
  have h21 := hM.2.2.2.2.2
  refine zcall (P2 := P2) (mc := k2) (ms := ks2) (rest := rest.map (zv_tr (zr fz N0))) (zrun_of (va_runU (As := []) ⟨C.1, C.2.1, C.2.2.2.1, C.own, C.hts⟩ (zmet0 (pw_met l C.2.2.2.2.2.2.2.2.2.1 D fz N0 hM.1 hM.2.1 hh hm hls hc) hnx) (va_cwA 0 C.hts hG rfl rfl rfl (C.env.2.2.2.2.1 _ hz rfl) ho ⟨(by show d2 + 1 ≤ _; omega), (by show 8 + (_ + 11) + 40 * d2 ≤ _; omega)⟩) ⟨zPc_blind, zrecv C V.1 hs hcf, fun U hU hW => ⟨rfl, by rw [hU]; exact V.1, C.env.moved (by rw [hU]; exact V.2.1) hW⟩⟩ rfl rfl V.2.2.1.1 rfl (by show 2 * 0 + _ ≤ 8; rw [zcat_sum]; omega) dd ⟨(by have := V.2.2.2.1; omega), (by have := V.2.2.2.2; omega)⟩)) V.2.1 (fun v g1 n1 H1 locs1 hp hR hS => by
    have h9 := kk v g1 n1 hp p l e R s m args below meth c D fz N0 C H1 locs1 (cells + k2) (slots + ks2) lr ⟨hR, hS, V.2.2.1, by have := V.2.2.2.1; omega, by have := V.2.2.2.2; omega⟩
    rw [List.map_append] at h9
    rw [show (v.toList.map (zv_tr (zr fz N0))) = (v.map (zv_tr (zr fz N0))).toList from by cases v <;> rfl] at h9
    exact h9) (fun E a g1 n1 ce H1 locs1 hp hR hS h1 h2 h3 h4 => absurd hp (hnx _ _ _ _))
theorem pw_callVN0 (hM : zM Y2 0) (hh : Y2.2.2.2.2.2 = []) {host : String} (hl : Cond.methodLinkNest Y.2.1 idx Y2.1 host ∈ lw_tbl) (hG : GoodIn lw_all (ws_ Y2.1 Y2.2.2.1 Y2.2.2.2.1 Y2.2.2.2.2.1)) (hini : Cond.initialized Y2.1.cls ∈ lw_all) (hin : Cond.instanceMethod Y2.1 ∈ lw_all) (hse : Cond.selects C9 Y2.1 Y2.1 ∈ lw_all) (hs : zsh g b = some (.inl ci)) (hcf : zCF C9 T9 N9 ci ty0) (hc : PW Y2 d2 P2 k2 ks2 0 ls0 [] g n) (hd : d2 + 1 ≤ d) (hbc : bc1 + k2 ≤ bc) (hbs : bs1 + ks2 ≤ bs) (hls : lv_args 0 (.ref b :: []) = ls0) (hm : (lg_sl (.ref b :: [])).length ≤ Y2.2.2.2.1) (hst : (rest.map fun v => v.category).sum ≤ 8) (dd : decode Y.2.2.1 pc = .ok (.invokevirtual idx, 3)) (hnx : ∀ E a g1 n1, ¬ P2 (.inr (E, a)) g1 n1) (kk : ∀ v g1 n1, P2 (.inl v) g1 n1 → PW Y d P bc1 bs1 (pc + 3) ls (v.toList ++ rest) g1 n1)  : PW Y d P bc bs pc ls (.ref b :: rest) g n := by
  intro p l e R s m args below meth c D fz N0 C H locs cells slots lr V
  have hf : d ≤ R.frames := C.2.2.2.2.2.2.2.2.2.2.1
  have hlo : 40 * d ≤ R.locals := C.2.2.2.2.2.2.2.2.2.2.2.1
  have h21 := hM.2.2.2.2.2
  refine zcall (P2 := P2) (mc := k2) (ms := ks2) (rest := rest.map (zv_tr (zr fz N0))) (zrun_of (va_runVN (As := []) ⟨C.1, C.2.1, C.2.2.2.1, C.own, C.hts⟩ (zmet0 (pw_met l C.2.2.2.2.2.2.2.2.2.1 D fz N0 hM.1 hM.2.1 hh hm hls hc) hnx) ⟨va_cnB 0 C.hts hG rfl rfl rfl (C.env.2.2.2.2.1 _ hl rfl) (C.hts _ hini) ⟨hM.2.2.1, hM.2.2.2.1, hM.2.2.2.2.1⟩ ⟨(by show d2 + 1 ≤ _; omega), (by show 8 + (_ + 11) + 40 * d2 ≤ _; omega)⟩, C.hts _ hin, C.hts _ hse⟩ ⟨zPc_blind, zrecv C V.1 hs hcf, fun U hU hW => ⟨rfl, by rw [hU]; exact V.1, C.env.moved (by rw [hU]; exact V.2.1) hW⟩⟩ rfl rfl V.2.2.1.1 rfl (by show 2 * 0 + _ ≤ 8; rw [zcat_sum]; omega) dd ⟨(by have := V.2.2.2.1; omega), (by have := V.2.2.2.2; omega)⟩)) V.2.1 (fun v g1 n1 H1 locs1 hp hR hS => by
    have h9 := kk v g1 n1 hp p l e R s m args below meth c D fz N0 C H1 locs1 (cells + k2) (slots + ks2) lr ⟨hR, hS, V.2.2.1, by have := V.2.2.2.1; omega, by have := V.2.2.2.2; omega⟩
    rw [List.map_append] at h9
    rw [show (v.toList.map (zv_tr (zr fz N0))) = (v.map (zv_tr (zr fz N0))).toList from by cases v <;> rfl] at h9
    exact h9) (fun E a g1 n1 ce H1 locs1 hp hR hS h1 h2 h3 h4 => absurd hp (hnx _ _ _ _))
theorem pw_callS0 (hM : zM Y2 0) (hh : Y2.2.2.2.2.2 = []) (hG : GoodIn lw_all (va_wsS Y.2.1 idx Y2.1 (ws_ Y2.1 Y2.2.2.1 Y2.2.2.2.1 Y2.2.2.2.2.1))) (hc : PW Y2 d2 P2 k2 ks2 0 ls0 [] g n) (hd : d2 + 1 ≤ d) (hbc : bc1 + k2 ≤ bc) (hbs : bs1 + ks2 ≤ bs) (hls : lv_args 0 [] = ls0) (hm : (lg_sl []).length ≤ Y2.2.2.2.1) (hst : (rest.map fun v => v.category).sum ≤ 8) (dd : decode Y.2.2.1 pc = .ok (.invokestatic idx, 3)) (hnx : ∀ E a g1 n1, ¬ P2 (.inr (E, a)) g1 n1) (kk : ∀ v g1 n1, P2 (.inl v) g1 n1 → PW Y d P bc1 bs1 (pc + 3) ls (v.toList ++ rest) g1 n1)  : PW Y d P bc bs pc ls (rest) g n := by
  intro p l e R s m args below meth c D fz N0 C H locs cells slots lr V
  have hf : d ≤ R.frames := C.2.2.2.2.2.2.2.2.2.2.1
  have hlo : 40 * d ≤ R.locals := C.2.2.2.2.2.2.2.2.2.2.2.1
  have h21 := hM.2.2.2.2.2
  refine zcall (P2 := P2) (mc := k2) (ms := ks2) (rest := rest.map (zv_tr (zr fz N0))) (zrun_of (va_runS (As := []) ⟨C.1, C.2.1, C.2.2.2.1, C.own, C.hts⟩ (zmet0 (pw_met l C.2.2.2.2.2.2.2.2.2.1 D fz N0 hM.1 hM.2.1 hh hm hls hc) hnx) (va_cwS 0 C.hts hG rfl rfl rfl ⟨hM.2.2.1, hM.2.2.2.1, hM.2.2.2.2.1⟩ ⟨(by show d2 + 1 ≤ _; omega), (by show 8 + (_ + 11) + 40 * d2 ≤ _; omega)⟩) ⟨zPc_blind, fun U hU hW => ⟨rfl, by rw [hU]; exact V.1, C.env.moved (by rw [hU]; exact V.2.1) hW⟩⟩ rfl rfl V.2.2.1.1 rfl (by show 2 * 0 + _ ≤ 8; rw [zcat_sum]; omega) dd ⟨(by have := V.2.2.2.1; omega), (by have := V.2.2.2.2; omega)⟩)) V.2.1 (fun v g1 n1 H1 locs1 hp hR hS => by
    have h9 := kk v g1 n1 hp p l e R s m args below meth c D fz N0 C H1 locs1 (cells + k2) (slots + ks2) lr ⟨hR, hS, V.2.2.1, by have := V.2.2.2.1; omega, by have := V.2.2.2.2; omega⟩
    rw [List.map_append] at h9
    rw [show (v.toList.map (zv_tr (zr fz N0))) = (v.map (zv_tr (zr fz N0))).toList from by cases v <;> rfl] at h9
    exact h9) (fun E a g1 n1 ce H1 locs1 hp hR hS h1 h2 h3 h4 => absurd hp (hnx _ _ _ _))
theorem pw_callI0 (hM : zM Y2 0) (hh : Y2.2.2.2.2.2 = []) (hret : Y2.2.2.2.2.1 = none) (hy1 : Y2.1.name = "<init>") (hG : GoodIn lw_all (ws_ Y2.1 Y2.2.2.1 Y2.2.2.2.1 none)) (hini : Cond.initialized Y2.1.cls ∈ lw_all) (hl : Cond.methodLink Y.2.1 idx Y2.1 ∈ lw_all) (hin : Cond.instanceMethod Y2.1 ∈ lw_all) (hc : PW Y2 d2 P2 k2 ks2 0 ls0 [] g n) (hd : d2 + 1 ≤ d) (hbc : bc1 + k2 ≤ bc) (hbs : bs1 + ks2 ≤ bs) (hls : lv_args 0 (.ref b :: []) = ls0) (hm : (lg_sl (.ref b :: [])).length ≤ Y2.2.2.2.1) (hst : (rest.map fun v => v.category).sum ≤ 8) (dd : decode Y.2.2.1 pc = .ok (.invokespecial idx, 3)) (hnx : ∀ E a g1 n1, ¬ P2 (.inr (E, a)) g1 n1) (kk : ∀ v g1 n1, P2 (.inl v) g1 n1 → PW Y d P bc1 bs1 (pc + 3) ls (v.toList ++ rest) g1 n1) : PW Y d P bc bs pc ls (.ref b :: rest) g n := by
  intro p l e R s m args below meth c D fz N0 C H locs cells slots lr V
  have hf : d ≤ R.frames := C.2.2.2.2.2.2.2.2.2.2.1
  have hlo : 40 * d ≤ R.locals := C.2.2.2.2.2.2.2.2.2.2.2.1
  have h21 := hM.2.2.2.2.2
  have hmet := zmet0 (pw_met l C.2.2.2.2.2.2.2.2.2.1 D fz N0 hM.1 hM.2.1 hh hm hls hc) hnx
  rw [hret] at hmet
  refine zcall (P2 := P2) (mc := k2) (ms := ks2) (rest := rest.map (zv_tr (zr fz N0))) (zrun_of (va_runI (As := []) ⟨C.1, C.2.1, C.2.2.2.1, C.own, C.hts⟩ hmet (cwI 0 C.hts hG rfl rfl rfl (C.hts _ hini) (C.hts _ hl) (C.hts _ hin) hy1 ⟨hM.2.2.1, hM.2.2.2.1, hM.2.2.2.2.1⟩ ⟨(by show d2 + 1 ≤ _; omega), (by show 8 + (_ + 11) + 40 * d2 ≤ _; omega)⟩) ⟨zPc_blind, fun U hU hW => ⟨rfl, by rw [hU]; exact V.1, C.env.moved (by rw [hU]; exact V.2.1) hW⟩⟩ rfl rfl V.2.2.1.1 rfl (by show 2 * 0 + _ ≤ 8; rw [zcat_sum]; omega) dd ⟨(by have := V.2.2.2.1; omega), (by have := V.2.2.2.2; omega)⟩)) V.2.1 (fun v g1 n1 H1 locs1 hp hR hS => by
    have h9 := kk v g1 n1 hp p l e R s m args below meth c D fz N0 C H1 locs1 (cells + k2) (slots + ks2) lr ⟨hR, hS, V.2.2.1, by have := V.2.2.2.1; omega, by have := V.2.2.2.2; omega⟩
    rw [List.map_append] at h9
    rw [show (v.toList.map (zv_tr (zr fz N0))) = (v.map (zv_tr (zr fz N0))).toList from by cases v <;> rfl] at h9
    exact h9) (fun E a g1 n1 ce H1 locs1 hp hR hS h1 h2 h3 h4 => absurd hp (hnx _ _ _ _))
theorem pw_callIN0 (hM : zM Y2 0) (hh : Y2.2.2.2.2.2 = []) (hret : Y2.2.2.2.2.1 = none) (hy1 : Y2.1.name = "<init>") {host : String} (hl : Cond.methodLinkNest Y.2.1 idx Y2.1 host ∈ lw_tbl) (hG : GoodIn lw_all (ws_ Y2.1 Y2.2.2.1 Y2.2.2.2.1 none)) (hini : Cond.initialized Y2.1.cls ∈ lw_all) (hin : Cond.instanceMethod Y2.1 ∈ lw_all) (hc : PW Y2 d2 P2 k2 ks2 0 ls0 [] g n) (hd : d2 + 1 ≤ d) (hbc : bc1 + k2 ≤ bc) (hbs : bs1 + ks2 ≤ bs) (hls : lv_args 0 (.ref b :: []) = ls0) (hm : (lg_sl (.ref b :: [])).length ≤ Y2.2.2.2.1) (hst : (rest.map fun v => v.category).sum ≤ 8) (dd : decode Y.2.2.1 pc = .ok (.invokespecial idx, 3)) (hnx : ∀ E a g1 n1, ¬ P2 (.inr (E, a)) g1 n1) (kk : ∀ v g1 n1, P2 (.inl v) g1 n1 → PW Y d P bc1 bs1 (pc + 3) ls (v.toList ++ rest) g1 n1) : PW Y d P bc bs pc ls (.ref b :: rest) g n := by
  intro p l e R s m args below meth c D fz N0 C H locs cells slots lr V
  have hf : d ≤ R.frames := C.2.2.2.2.2.2.2.2.2.2.1
  have hlo : 40 * d ≤ R.locals := C.2.2.2.2.2.2.2.2.2.2.2.1
  have h21 := hM.2.2.2.2.2
  have hmet := zmet0 (pw_met l C.2.2.2.2.2.2.2.2.2.1 D fz N0 hM.1 hM.2.1 hh hm hls hc) hnx
  rw [hret] at hmet
  refine zcall (P2 := P2) (mc := k2) (ms := ks2) (rest := rest.map (zv_tr (zr fz N0))) (zrun_of (va_runIN (As := []) ⟨C.1, C.2.1, C.2.2.2.1, C.own, C.hts⟩ hmet ⟨va_cnB 0 C.hts hG rfl rfl rfl (C.env.2.2.2.2.1 _ hl rfl) (C.hts _ hini) ⟨hM.2.2.1, hM.2.2.2.1, hM.2.2.2.2.1⟩ ⟨(by show d2 + 1 ≤ _; omega), (by show 8 + (_ + 11) + 40 * d2 ≤ _; omega)⟩, hy1, C.hts _ hin⟩ ⟨zPc_blind, fun U hU hW => ⟨rfl, by rw [hU]; exact V.1, C.env.moved (by rw [hU]; exact V.2.1) hW⟩⟩ rfl rfl V.2.2.1.1 rfl (by show 2 * 0 + _ ≤ 8; rw [zcat_sum]; omega) dd ⟨(by have := V.2.2.2.1; omega), (by have := V.2.2.2.2; omega)⟩)) V.2.1 (fun v g1 n1 H1 locs1 hp hR hS => by
    have h9 := kk v g1 n1 hp p l e R s m args below meth c D fz N0 C H1 locs1 (cells + k2) (slots + ks2) lr ⟨hR, hS, V.2.2.1, by have := V.2.2.2.1; omega, by have := V.2.2.2.2; omega⟩
    rw [List.map_append] at h9
    rw [show (v.toList.map (zv_tr (zr fz N0))) = (v.map (zv_tr (zr fz N0))).toList from by cases v <;> rfl] at h9
    exact h9) (fun E a g1 n1 ce H1 locs1 hp hR hS h1 h2 h3 h4 => absurd hp (hnx _ _ _ _))
theorem pw_callV1 {a1 : Value} (hM : zM Y2 1) (hh : Y2.2.2.2.2.2 = []) (hG : GoodIn lw_all (wsV Y.2.1 idx C9 Y2.1 (ws_ Y2.1 Y2.2.2.1 Y2.2.2.2.1 Y2.2.2.2.2.1))) (hC : Y2.2.1 = C9) (hs : zsh g b = some (.inl ci)) (hcf : zCF C9 T9 N9 ci ty0) (hc : PW Y2 d2 P2 k2 ks2 0 ls0 [] g n) (hd : d2 + 1 ≤ d) (hbc : bc1 + k2 ≤ bc) (hbs : bs1 + ks2 ≤ bs) (hls : lv_args 0 (.ref b :: [a1]) = ls0) (hm : (lg_sl (.ref b :: [a1])).length ≤ Y2.2.2.2.1) (hst : (rest.map fun v => v.category).sum ≤ 8) (dd : decode Y.2.2.1 pc = .ok (.invokevirtual idx, 3)) (hnx : ∀ E a g1 n1, ¬ P2 (.inr (E, a)) g1 n1) (kk : ∀ v g1 n1, P2 (.inl v) g1 n1 → PW Y d P bc1 bs1 (pc + 3) ls (v.toList ++ rest) g1 n1)  : PW Y d P bc bs pc ls (a1 :: .ref b :: rest) g n := by
  intro p l e R s m args below meth c D fz N0 C H locs cells slots lr V
  have hf : d ≤ R.frames := C.2.2.2.2.2.2.2.2.2.2.1
  have hlo : 40 * d ≤ R.locals := C.2.2.2.2.2.2.2.2.2.2.2.1
  have h21 := hM.2.2.2.2.2
  refine zcall (P2 := P2) (mc := k2) (ms := ks2) (rest := rest.map (zv_tr (zr fz N0))) (zrun_of (va_runV (As := [zv_tr (zr fz N0) a1]) ⟨C.1, C.2.1, C.2.2.2.1, C.own, C.hts⟩ (zmet0 (pw_met l C.2.2.2.2.2.2.2.2.2.1 D fz N0 hM.1 hM.2.1 hh hm hls hc) hnx) (cwV 1 C.hts hG rfl rfl rfl ⟨hM.2.1.trans hC, hM.2.2.1, hM.2.2.2.1, hM.2.2.2.2.1⟩ ⟨(by show d2 + 1 ≤ _; omega), (by show 8 + (_ + 11) + 40 * d2 ≤ _; omega)⟩) ⟨zPc_blind, zrecv C V.1 hs hcf, fun U hU hW => ⟨rfl, by rw [hU]; exact V.1, C.env.moved (by rw [hU]; exact V.2.1) hW⟩⟩ rfl rfl V.2.2.1.1 rfl (by show 2 * 0 + _ ≤ 8; rw [zcat_sum]; omega) dd ⟨(by have := V.2.2.2.1; omega), (by have := V.2.2.2.2; omega)⟩)) V.2.1 (fun v g1 n1 H1 locs1 hp hR hS => by
    have h9 := kk v g1 n1 hp p l e R s m args below meth c D fz N0 C H1 locs1 (cells + k2) (slots + ks2) lr ⟨hR, hS, V.2.2.1, by have := V.2.2.2.1; omega, by have := V.2.2.2.2; omega⟩
    rw [List.map_append] at h9
    rw [show (v.toList.map (zv_tr (zr fz N0))) = (v.map (zv_tr (zr fz N0))).toList from by cases v <;> rfl] at h9
    exact h9) (fun E a g1 n1 ce H1 locs1 hp hR hS h1 h2 h3 h4 => absurd hp (hnx _ _ _ _))
theorem pw_callVx1 {a1 : Value} (hM : zM Y2 1) (hh : Y2.2.2.2.2.2 = []) (hG : GoodIn lw_all (wsV Y.2.1 idx C9 Y2.1 (ws_ Y2.1 Y2.2.2.1 Y2.2.2.2.1 Y2.2.2.2.2.1))) (hC : Y2.2.1 = C9) (hs : zsh g b = some (.inl ci)) (hcf : zCF C9 T9 N9 ci ty0) (hc : PW Y2 d2 P2 k2 ks2 0 ls0 [] g n) (hd : d2 + 1 ≤ d) (hbc : bc1 + k2 ≤ bc) (hbs : bs1 + ks2 ≤ bs) (hls : lv_args 0 (.ref b :: [a1]) = ls0) (hm : (lg_sl (.ref b :: [a1])).length ≤ Y2.2.2.2.1) (hst : (rest.map fun v => v.category).sum ≤ 8) (dd : decode Y.2.2.1 pc = .ok (.invokevirtual idx, 3))  (kk : ∀ v g1 n1, P2 (.inl v) g1 n1 → PW Y d P bc1 bs1 (pc + 3) ls (v.toList ++ rest) g1 n1) (kx : ∀ E a g1 n1, P2 (.inr (E, a)) g1 n1 → PX Y d P bc1 bs1 pc ls E a g1 n1) : PW Y d P bc bs pc ls (a1 :: .ref b :: rest) g n := by
  intro p l e R s m args below meth c D fz N0 C H locs cells slots lr V
  have hf : d ≤ R.frames := C.2.2.2.2.2.2.2.2.2.2.1
  have hlo : 40 * d ≤ R.locals := C.2.2.2.2.2.2.2.2.2.2.2.1
  have h21 := hM.2.2.2.2.2
  refine zcall (P2 := P2) (mc := k2) (ms := ks2) (rest := rest.map (zv_tr (zr fz N0))) (vx_runV (As := [zv_tr (zr fz N0) a1]) ⟨C.1, C.2.1, C.2.2.2.1, C.own, C.hts⟩ (pw_met l C.2.2.2.2.2.2.2.2.2.1 D fz N0 hM.1 hM.2.1 hh hm hls hc) (cwV 1 C.hts hG rfl rfl rfl ⟨hM.2.1.trans hC, hM.2.2.1, hM.2.2.2.1, hM.2.2.2.2.1⟩ ⟨(by show d2 + 1 ≤ _; omega), (by show 8 + (_ + 11) + 40 * d2 ≤ _; omega)⟩) ⟨zPc_blind, zrecv C V.1 hs hcf, fun U hU hW => ⟨rfl, by rw [hU]; exact V.1, C.env.moved (by rw [hU]; exact V.2.1) hW⟩⟩ rfl rfl V.2.2.1.1 rfl (by show 2 * 0 + _ ≤ 8; rw [zcat_sum]; omega) dd ⟨(by have := V.2.2.2.1; omega), (by have := V.2.2.2.2; omega)⟩) V.2.1 (fun v g1 n1 H1 locs1 hp hR hS => by
    have h9 := kk v g1 n1 hp p l e R s m args below meth c D fz N0 C H1 locs1 (cells + k2) (slots + ks2) lr ⟨hR, hS, V.2.2.1, by have := V.2.2.2.1; omega, by have := V.2.2.2.2; omega⟩
    rw [List.map_append] at h9
    rw [show (v.toList.map (zv_tr (zr fz N0))) = (v.map (zv_tr (zr fz N0))).toList from by cases v <;> rfl] at h9
    exact h9) (fun E a g1 n1 ce H1 locs1 hp hR hS h1 h2 h3 h4 => kx E a g1 n1 hp p l e R s m args below meth c D fz N0 C H1 locs1 _ _ lr ⟨hR, hS, V.2.2.1, by have := V.2.2.2.1; omega, by have := V.2.2.2.2; omega⟩ ce _ h1 h2 h3 h4)
theorem pw_callU1 {a1 : Value} (hM : zM Y2 1) (hh : Y2.2.2.2.2.2 = []) {x : MethodName} {owner : String} (hG : GoodIn lw_all (va_wsU Y.2.1 idx C9 owner x Y2.1 (ws_ Y2.1 Y2.2.2.1 Y2.2.2.2.1 Y2.2.2.2.2.1))) (hx : Y2.1 = ⟨owner, x.name, x.desc⟩) (ho : owner ≠ "java/lang/invoke/MethodHandle" ∧ owner ≠ "java/lang/invoke/VarHandle" ∧ (parseMethodDescriptor x.desc).map (fun d => d.parameters.length) = some 1) (hs : zsh g b = some (.inl ci)) (hcf : zCF C9 T9 N9 ci ty0) (hc : PW Y2 d2 P2 k2 ks2 0 ls0 [] g n) (hd : d2 + 1 ≤ d) (hbc : bc1 + k2 ≤ bc) (hbs : bs1 + ks2 ≤ bs) (hls : lv_args 0 (.ref b :: [a1]) = ls0) (hm : (lg_sl (.ref b :: [a1])).length ≤ Y2.2.2.2.1) (hst : (rest.map fun v => v.category).sum ≤ 8) (dd : decode Y.2.2.1 pc = .ok (.invokevirtual idx, 3)) (hnx : ∀ E a g1 n1, ¬ P2 (.inr (E, a)) g1 n1) (kk : ∀ v g1 n1, P2 (.inl v) g1 n1 → PW Y d P bc1 bs1 (pc + 3) ls (v.toList ++ rest) g1 n1)  : PW Y d P bc bs pc ls (a1 :: .ref b :: rest) g n := by
  intro p l e R s m args below meth c D fz N0 C H locs cells slots lr V
  have hf : d ≤ R.frames := C.2.2.2.2.2.2.2.2.2.2.1
  have hlo : 40 * d ≤ R.locals := C.2.2.2.2.2.2.2.2.2.2.2.1
  have h21 := hM.2.2.2.2.2
  refine zcall (P2 := P2) (mc := k2) (ms := ks2) (rest := rest.map (zv_tr (zr fz N0))) (zrun_of (va_runU (As := [zv_tr (zr fz N0) a1]) ⟨C.1, C.2.1, C.2.2.2.1, C.own, C.hts⟩ (zmet0 (pw_met l C.2.2.2.2.2.2.2.2.2.1 D fz N0 hM.1 hM.2.1 hh hm hls hc) hnx) (va_cwU 1 C.hts hG rfl rfl rfl hx ho ⟨(by show d2 + 1 ≤ _; omega), (by show 8 + (_ + 11) + 40 * d2 ≤ _; omega)⟩) ⟨zPc_blind, zrecv C V.1 hs hcf, fun U hU hW => ⟨rfl, by rw [hU]; exact V.1, C.env.moved (by rw [hU]; exact V.2.1) hW⟩⟩ rfl rfl V.2.2.1.1 rfl (by show 2 * 0 + _ ≤ 8; rw [zcat_sum]; omega) dd ⟨(by have := V.2.2.2.1; omega), (by have := V.2.2.2.2; omega)⟩)) V.2.1 (fun v g1 n1 H1 locs1 hp hR hS => by
    have h9 := kk v g1 n1 hp p l e R s m args below meth c D fz N0 C H1 locs1 (cells + k2) (slots + ks2) lr ⟨hR, hS, V.2.2.1, by have := V.2.2.2.1; omega, by have := V.2.2.2.2; omega⟩
    rw [List.map_append] at h9
    rw [show (v.toList.map (zv_tr (zr fz N0))) = (v.map (zv_tr (zr fz N0))).toList from by cases v <;> rfl] at h9
    exact h9) (fun E a g1 n1 ce H1 locs1 hp hR hS h1 h2 h3 h4 => absurd hp (hnx _ _ _ _))
theorem pw_callA1 {a1 : Value} (hM : zM Y2 1) (hh : Y2.2.2.2.2.2 = []) {x : MethodName} {owner : String} (hG : GoodIn lw_all (va_wsU Y.2.1 idx C9 owner x Y2.1 (ws_ Y2.1 Y2.2.2.1 Y2.2.2.2.1 Y2.2.2.2.2.1))) (hz : Cond.declares ⟨owner, x.name, x.desc⟩ ∈ lw_tbl) (ho : owner ≠ "java/lang/invoke/MethodHandle" ∧ owner ≠ "java/lang/invoke/VarHandle" ∧ (parseMethodDescriptor x.desc).map (fun d => d.parameters.length) = some 1) (hs : zsh g b = some (.inl ci)) (hcf : zCF C9 T9 N9 ci ty0) (hc : PW Y2 d2 P2 k2 ks2 0 ls0 [] g n) (hd : d2 + 1 ≤ d) (hbc : bc1 + k2 ≤ bc) (hbs : bs1 + ks2 ≤ bs) (hls : lv_args 0 (.ref b :: [a1]) = ls0) (hm : (lg_sl (.ref b :: [a1])).length ≤ Y2.2.2.2.1) (hst : (rest.map fun v => v.category).sum ≤ 8) (dd : decode Y.2.2.1 pc = .ok (.invokevirtual idx, 3)) (hnx : ∀ E a g1 n1, ¬ P2 (.inr (E, a)) g1 n1) (kk : ∀ v g1 n1, P2 (.inl v) g1 n1 → PW Y d P bc1 bs1 (pc + 3) ls (v.toList ++ rest) g1 n1)  : PW Y d P bc bs pc ls (a1 :: .ref b :: rest) g n := by
  intro p l e R s m args below meth c D fz N0 C H locs cells slots lr V
  have hf : d ≤ R.frames := C.2.2.2.2.2.2.2.2.2.2.1
  have hlo : 40 * d ≤ R.locals := C.2.2.2.2.2.2.2.2.2.2.2.1
  have h21 := hM.2.2.2.2.2
  refine zcall (P2 := P2) (mc := k2) (ms := ks2) (rest := rest.map (zv_tr (zr fz N0))) (zrun_of (va_runU (As := [zv_tr (zr fz N0) a1]) ⟨C.1, C.2.1, C.2.2.2.1, C.own, C.hts⟩ (zmet0 (pw_met l C.2.2.2.2.2.2.2.2.2.1 D fz N0 hM.1 hM.2.1 hh hm hls hc) hnx) (va_cwA 1 C.hts hG rfl rfl rfl (C.env.2.2.2.2.1 _ hz rfl) ho ⟨(by show d2 + 1 ≤ _; omega), (by show 8 + (_ + 11) + 40 * d2 ≤ _; omega)⟩) ⟨zPc_blind, zrecv C V.1 hs hcf, fun U hU hW => ⟨rfl, by rw [hU]; exact V.1, C.env.moved (by rw [hU]; exact V.2.1) hW⟩⟩ rfl rfl V.2.2.1.1 rfl (by show 2 * 0 + _ ≤ 8; rw [zcat_sum]; omega) dd ⟨(by have := V.2.2.2.1; omega), (by have := V.2.2.2.2; omega)⟩)) V.2.1 (fun v g1 n1 H1 locs1 hp hR hS => by
    have h9 := kk v g1 n1 hp p l e R s m args below meth c D fz N0 C H1 locs1 (cells + k2) (slots + ks2) lr ⟨hR, hS, V.2.2.1, by have := V.2.2.2.1; omega, by have := V.2.2.2.2; omega⟩
    rw [List.map_append] at h9
    rw [show (v.toList.map (zv_tr (zr fz N0))) = (v.map (zv_tr (zr fz N0))).toList from by cases v <;> rfl] at h9
    exact h9) (fun E a g1 n1 ce H1 locs1 hp hR hS h1 h2 h3 h4 => absurd hp (hnx _ _ _ _))
theorem pw_callVN1 {a1 : Value} (hM : zM Y2 1) (hh : Y2.2.2.2.2.2 = []) {host : String} (hl : Cond.methodLinkNest Y.2.1 idx Y2.1 host ∈ lw_tbl) (hG : GoodIn lw_all (ws_ Y2.1 Y2.2.2.1 Y2.2.2.2.1 Y2.2.2.2.2.1)) (hini : Cond.initialized Y2.1.cls ∈ lw_all) (hin : Cond.instanceMethod Y2.1 ∈ lw_all) (hse : Cond.selects C9 Y2.1 Y2.1 ∈ lw_all) (hs : zsh g b = some (.inl ci)) (hcf : zCF C9 T9 N9 ci ty0) (hc : PW Y2 d2 P2 k2 ks2 0 ls0 [] g n) (hd : d2 + 1 ≤ d) (hbc : bc1 + k2 ≤ bc) (hbs : bs1 + ks2 ≤ bs) (hls : lv_args 0 (.ref b :: [a1]) = ls0) (hm : (lg_sl (.ref b :: [a1])).length ≤ Y2.2.2.2.1) (hst : (rest.map fun v => v.category).sum ≤ 8) (dd : decode Y.2.2.1 pc = .ok (.invokevirtual idx, 3)) (hnx : ∀ E a g1 n1, ¬ P2 (.inr (E, a)) g1 n1) (kk : ∀ v g1 n1, P2 (.inl v) g1 n1 → PW Y d P bc1 bs1 (pc + 3) ls (v.toList ++ rest) g1 n1)  : PW Y d P bc bs pc ls (a1 :: .ref b :: rest) g n := by
  intro p l e R s m args below meth c D fz N0 C H locs cells slots lr V
  have hf : d ≤ R.frames := C.2.2.2.2.2.2.2.2.2.2.1
  have hlo : 40 * d ≤ R.locals := C.2.2.2.2.2.2.2.2.2.2.2.1
  have h21 := hM.2.2.2.2.2
  refine zcall (P2 := P2) (mc := k2) (ms := ks2) (rest := rest.map (zv_tr (zr fz N0))) (zrun_of (va_runVN (As := [zv_tr (zr fz N0) a1]) ⟨C.1, C.2.1, C.2.2.2.1, C.own, C.hts⟩ (zmet0 (pw_met l C.2.2.2.2.2.2.2.2.2.1 D fz N0 hM.1 hM.2.1 hh hm hls hc) hnx) ⟨va_cnB 1 C.hts hG rfl rfl rfl (C.env.2.2.2.2.1 _ hl rfl) (C.hts _ hini) ⟨hM.2.2.1, hM.2.2.2.1, hM.2.2.2.2.1⟩ ⟨(by show d2 + 1 ≤ _; omega), (by show 8 + (_ + 11) + 40 * d2 ≤ _; omega)⟩, C.hts _ hin, C.hts _ hse⟩ ⟨zPc_blind, zrecv C V.1 hs hcf, fun U hU hW => ⟨rfl, by rw [hU]; exact V.1, C.env.moved (by rw [hU]; exact V.2.1) hW⟩⟩ rfl rfl V.2.2.1.1 rfl (by show 2 * 0 + _ ≤ 8; rw [zcat_sum]; omega) dd ⟨(by have := V.2.2.2.1; omega), (by have := V.2.2.2.2; omega)⟩)) V.2.1 (fun v g1 n1 H1 locs1 hp hR hS => by
    have h9 := kk v g1 n1 hp p l e R s m args below meth c D fz N0 C H1 locs1 (cells + k2) (slots + ks2) lr ⟨hR, hS, V.2.2.1, by have := V.2.2.2.1; omega, by have := V.2.2.2.2; omega⟩
    rw [List.map_append] at h9
    rw [show (v.toList.map (zv_tr (zr fz N0))) = (v.map (zv_tr (zr fz N0))).toList from by cases v <;> rfl] at h9
    exact h9) (fun E a g1 n1 ce H1 locs1 hp hR hS h1 h2 h3 h4 => absurd hp (hnx _ _ _ _))
theorem pw_callS1 {a1 : Value} (hM : zM Y2 1) (hh : Y2.2.2.2.2.2 = []) (hG : GoodIn lw_all (va_wsS Y.2.1 idx Y2.1 (ws_ Y2.1 Y2.2.2.1 Y2.2.2.2.1 Y2.2.2.2.2.1))) (hc : PW Y2 d2 P2 k2 ks2 0 ls0 [] g n) (hd : d2 + 1 ≤ d) (hbc : bc1 + k2 ≤ bc) (hbs : bs1 + ks2 ≤ bs) (hls : lv_args 0 [a1] = ls0) (hm : (lg_sl [a1]).length ≤ Y2.2.2.2.1) (hst : (rest.map fun v => v.category).sum ≤ 8) (dd : decode Y.2.2.1 pc = .ok (.invokestatic idx, 3)) (hnx : ∀ E a g1 n1, ¬ P2 (.inr (E, a)) g1 n1) (kk : ∀ v g1 n1, P2 (.inl v) g1 n1 → PW Y d P bc1 bs1 (pc + 3) ls (v.toList ++ rest) g1 n1)  : PW Y d P bc bs pc ls (a1 :: rest) g n := by
  intro p l e R s m args below meth c D fz N0 C H locs cells slots lr V
  have hf : d ≤ R.frames := C.2.2.2.2.2.2.2.2.2.2.1
  have hlo : 40 * d ≤ R.locals := C.2.2.2.2.2.2.2.2.2.2.2.1
  have h21 := hM.2.2.2.2.2
  refine zcall (P2 := P2) (mc := k2) (ms := ks2) (rest := rest.map (zv_tr (zr fz N0))) (zrun_of (va_runS (As := [zv_tr (zr fz N0) a1]) ⟨C.1, C.2.1, C.2.2.2.1, C.own, C.hts⟩ (zmet0 (pw_met l C.2.2.2.2.2.2.2.2.2.1 D fz N0 hM.1 hM.2.1 hh hm hls hc) hnx) (va_cwS 1 C.hts hG rfl rfl rfl ⟨hM.2.2.1, hM.2.2.2.1, hM.2.2.2.2.1⟩ ⟨(by show d2 + 1 ≤ _; omega), (by show 8 + (_ + 11) + 40 * d2 ≤ _; omega)⟩) ⟨zPc_blind, fun U hU hW => ⟨rfl, by rw [hU]; exact V.1, C.env.moved (by rw [hU]; exact V.2.1) hW⟩⟩ rfl rfl V.2.2.1.1 rfl (by show 2 * 0 + _ ≤ 8; rw [zcat_sum]; omega) dd ⟨(by have := V.2.2.2.1; omega), (by have := V.2.2.2.2; omega)⟩)) V.2.1 (fun v g1 n1 H1 locs1 hp hR hS => by
    have h9 := kk v g1 n1 hp p l e R s m args below meth c D fz N0 C H1 locs1 (cells + k2) (slots + ks2) lr ⟨hR, hS, V.2.2.1, by have := V.2.2.2.1; omega, by have := V.2.2.2.2; omega⟩
    rw [List.map_append] at h9
    rw [show (v.toList.map (zv_tr (zr fz N0))) = (v.map (zv_tr (zr fz N0))).toList from by cases v <;> rfl] at h9
    exact h9) (fun E a g1 n1 ce H1 locs1 hp hR hS h1 h2 h3 h4 => absurd hp (hnx _ _ _ _))
theorem pw_callI1 {a1 : Value} (hM : zM Y2 1) (hh : Y2.2.2.2.2.2 = []) (hret : Y2.2.2.2.2.1 = none) (hy1 : Y2.1.name = "<init>") (hG : GoodIn lw_all (ws_ Y2.1 Y2.2.2.1 Y2.2.2.2.1 none)) (hini : Cond.initialized Y2.1.cls ∈ lw_all) (hl : Cond.methodLink Y.2.1 idx Y2.1 ∈ lw_all) (hin : Cond.instanceMethod Y2.1 ∈ lw_all) (hc : PW Y2 d2 P2 k2 ks2 0 ls0 [] g n) (hd : d2 + 1 ≤ d) (hbc : bc1 + k2 ≤ bc) (hbs : bs1 + ks2 ≤ bs) (hls : lv_args 0 (.ref b :: [a1]) = ls0) (hm : (lg_sl (.ref b :: [a1])).length ≤ Y2.2.2.2.1) (hst : (rest.map fun v => v.category).sum ≤ 8) (dd : decode Y.2.2.1 pc = .ok (.invokespecial idx, 3)) (hnx : ∀ E a g1 n1, ¬ P2 (.inr (E, a)) g1 n1) (kk : ∀ v g1 n1, P2 (.inl v) g1 n1 → PW Y d P bc1 bs1 (pc + 3) ls (v.toList ++ rest) g1 n1) : PW Y d P bc bs pc ls (a1 :: .ref b :: rest) g n := by
  intro p l e R s m args below meth c D fz N0 C H locs cells slots lr V
  have hf : d ≤ R.frames := C.2.2.2.2.2.2.2.2.2.2.1
  have hlo : 40 * d ≤ R.locals := C.2.2.2.2.2.2.2.2.2.2.2.1
  have h21 := hM.2.2.2.2.2
  have hmet := zmet0 (pw_met l C.2.2.2.2.2.2.2.2.2.1 D fz N0 hM.1 hM.2.1 hh hm hls hc) hnx
  rw [hret] at hmet
  refine zcall (P2 := P2) (mc := k2) (ms := ks2) (rest := rest.map (zv_tr (zr fz N0))) (zrun_of (va_runI (As := [zv_tr (zr fz N0) a1]) ⟨C.1, C.2.1, C.2.2.2.1, C.own, C.hts⟩ hmet (cwI 1 C.hts hG rfl rfl rfl (C.hts _ hini) (C.hts _ hl) (C.hts _ hin) hy1 ⟨hM.2.2.1, hM.2.2.2.1, hM.2.2.2.2.1⟩ ⟨(by show d2 + 1 ≤ _; omega), (by show 8 + (_ + 11) + 40 * d2 ≤ _; omega)⟩) ⟨zPc_blind, fun U hU hW => ⟨rfl, by rw [hU]; exact V.1, C.env.moved (by rw [hU]; exact V.2.1) hW⟩⟩ rfl rfl V.2.2.1.1 rfl (by show 2 * 0 + _ ≤ 8; rw [zcat_sum]; omega) dd ⟨(by have := V.2.2.2.1; omega), (by have := V.2.2.2.2; omega)⟩)) V.2.1 (fun v g1 n1 H1 locs1 hp hR hS => by
    have h9 := kk v g1 n1 hp p l e R s m args below meth c D fz N0 C H1 locs1 (cells + k2) (slots + ks2) lr ⟨hR, hS, V.2.2.1, by have := V.2.2.2.1; omega, by have := V.2.2.2.2; omega⟩
    rw [List.map_append] at h9
    rw [show (v.toList.map (zv_tr (zr fz N0))) = (v.map (zv_tr (zr fz N0))).toList from by cases v <;> rfl] at h9
    exact h9) (fun E a g1 n1 ce H1 locs1 hp hR hS h1 h2 h3 h4 => absurd hp (hnx _ _ _ _))
theorem pw_callIN1 {a1 : Value} (hM : zM Y2 1) (hh : Y2.2.2.2.2.2 = []) (hret : Y2.2.2.2.2.1 = none) (hy1 : Y2.1.name = "<init>") {host : String} (hl : Cond.methodLinkNest Y.2.1 idx Y2.1 host ∈ lw_tbl) (hG : GoodIn lw_all (ws_ Y2.1 Y2.2.2.1 Y2.2.2.2.1 none)) (hini : Cond.initialized Y2.1.cls ∈ lw_all) (hin : Cond.instanceMethod Y2.1 ∈ lw_all) (hc : PW Y2 d2 P2 k2 ks2 0 ls0 [] g n) (hd : d2 + 1 ≤ d) (hbc : bc1 + k2 ≤ bc) (hbs : bs1 + ks2 ≤ bs) (hls : lv_args 0 (.ref b :: [a1]) = ls0) (hm : (lg_sl (.ref b :: [a1])).length ≤ Y2.2.2.2.1) (hst : (rest.map fun v => v.category).sum ≤ 8) (dd : decode Y.2.2.1 pc = .ok (.invokespecial idx, 3)) (hnx : ∀ E a g1 n1, ¬ P2 (.inr (E, a)) g1 n1) (kk : ∀ v g1 n1, P2 (.inl v) g1 n1 → PW Y d P bc1 bs1 (pc + 3) ls (v.toList ++ rest) g1 n1) : PW Y d P bc bs pc ls (a1 :: .ref b :: rest) g n := by
  intro p l e R s m args below meth c D fz N0 C H locs cells slots lr V
  have hf : d ≤ R.frames := C.2.2.2.2.2.2.2.2.2.2.1
  have hlo : 40 * d ≤ R.locals := C.2.2.2.2.2.2.2.2.2.2.2.1
  have h21 := hM.2.2.2.2.2
  have hmet := zmet0 (pw_met l C.2.2.2.2.2.2.2.2.2.1 D fz N0 hM.1 hM.2.1 hh hm hls hc) hnx
  rw [hret] at hmet
  refine zcall (P2 := P2) (mc := k2) (ms := ks2) (rest := rest.map (zv_tr (zr fz N0))) (zrun_of (va_runIN (As := [zv_tr (zr fz N0) a1]) ⟨C.1, C.2.1, C.2.2.2.1, C.own, C.hts⟩ hmet ⟨va_cnB 1 C.hts hG rfl rfl rfl (C.env.2.2.2.2.1 _ hl rfl) (C.hts _ hini) ⟨hM.2.2.1, hM.2.2.2.1, hM.2.2.2.2.1⟩ ⟨(by show d2 + 1 ≤ _; omega), (by show 8 + (_ + 11) + 40 * d2 ≤ _; omega)⟩, hy1, C.hts _ hin⟩ ⟨zPc_blind, fun U hU hW => ⟨rfl, by rw [hU]; exact V.1, C.env.moved (by rw [hU]; exact V.2.1) hW⟩⟩ rfl rfl V.2.2.1.1 rfl (by show 2 * 0 + _ ≤ 8; rw [zcat_sum]; omega) dd ⟨(by have := V.2.2.2.1; omega), (by have := V.2.2.2.2; omega)⟩)) V.2.1 (fun v g1 n1 H1 locs1 hp hR hS => by
    have h9 := kk v g1 n1 hp p l e R s m args below meth c D fz N0 C H1 locs1 (cells + k2) (slots + ks2) lr ⟨hR, hS, V.2.2.1, by have := V.2.2.2.1; omega, by have := V.2.2.2.2; omega⟩
    rw [List.map_append] at h9
    rw [show (v.toList.map (zv_tr (zr fz N0))) = (v.map (zv_tr (zr fz N0))).toList from by cases v <;> rfl] at h9
    exact h9) (fun E a g1 n1 ce H1 locs1 hp hR hS h1 h2 h3 h4 => absurd hp (hnx _ _ _ _))
theorem pw_callV2 {a1 a2 : Value} (hM : zM Y2 2) (hh : Y2.2.2.2.2.2 = []) (hG : GoodIn lw_all (wsV Y.2.1 idx C9 Y2.1 (ws_ Y2.1 Y2.2.2.1 Y2.2.2.2.1 Y2.2.2.2.2.1))) (hC : Y2.2.1 = C9) (hs : zsh g b = some (.inl ci)) (hcf : zCF C9 T9 N9 ci ty0) (hc : PW Y2 d2 P2 k2 ks2 0 ls0 [] g n) (hd : d2 + 1 ≤ d) (hbc : bc1 + k2 ≤ bc) (hbs : bs1 + ks2 ≤ bs) (hls : lv_args 0 (.ref b :: [a1, a2]) = ls0) (hm : (lg_sl (.ref b :: [a1, a2])).length ≤ Y2.2.2.2.1) (hst : (rest.map fun v => v.category).sum ≤ 8) (dd : decode Y.2.2.1 pc = .ok (.invokevirtual idx, 3)) (hnx : ∀ E a g1 n1, ¬ P2 (.inr (E, a)) g1 n1) (kk : ∀ v g1 n1, P2 (.inl v) g1 n1 → PW Y d P bc1 bs1 (pc + 3) ls (v.toList ++ rest) g1 n1)  : PW Y d P bc bs pc ls (a2 :: a1 :: .ref b :: rest) g n := by
  intro p l e R s m args below meth c D fz N0 C H locs cells slots lr V
  have hf : d ≤ R.frames := C.2.2.2.2.2.2.2.2.2.2.1
  have hlo : 40 * d ≤ R.locals := C.2.2.2.2.2.2.2.2.2.2.2.1
  have h21 := hM.2.2.2.2.2
  refine zcall (P2 := P2) (mc := k2) (ms := ks2) (rest := rest.map (zv_tr (zr fz N0))) (zrun_of (va_runV (As := [zv_tr (zr fz N0) a1, zv_tr (zr fz N0) a2]) ⟨C.1, C.2.1, C.2.2.2.1, C.own, C.hts⟩ (zmet0 (pw_met l C.2.2.2.2.2.2.2.2.2.1 D fz N0 hM.1 hM.2.1 hh hm hls hc) hnx) (cwV 2 C.hts hG rfl rfl rfl ⟨hM.2.1.trans hC, hM.2.2.1, hM.2.2.2.1, hM.2.2.2.2.1⟩ ⟨(by show d2 + 1 ≤ _; omega), (by show 8 + (_ + 11) + 40 * d2 ≤ _; omega)⟩) ⟨zPc_blind, zrecv C V.1 hs hcf, fun U hU hW => ⟨rfl, by rw [hU]; exact V.1, C.env.moved (by rw [hU]; exact V.2.1) hW⟩⟩ rfl rfl V.2.2.1.1 rfl (by show 2 * 0 + _ ≤ 8; rw [zcat_sum]; omega) dd ⟨(by have := V.2.2.2.1; omega), (by have := V.2.2.2.2; omega)⟩)) V.2.1 (fun v g1 n1 H1 locs1 hp hR hS => by
    have h9 := kk v g1 n1 hp p l e R s m args below meth c D fz N0 C H1 locs1 (cells + k2) (slots + ks2) lr ⟨hR, hS, V.2.2.1, by have := V.2.2.2.1; omega, by have := V.2.2.2.2; omega⟩
    rw [List.map_append] at h9
    rw [show (v.toList.map (zv_tr (zr fz N0))) = (v.map (zv_tr (zr fz N0))).toList from by cases v <;> rfl] at h9
    exact h9) (fun E a g1 n1 ce H1 locs1 hp hR hS h1 h2 h3 h4 => absurd hp (hnx _ _ _ _))
theorem pw_callVx2 {a1 a2 : Value} (hM : zM Y2 2) (hh : Y2.2.2.2.2.2 = []) (hG : GoodIn lw_all (wsV Y.2.1 idx C9 Y2.1 (ws_ Y2.1 Y2.2.2.1 Y2.2.2.2.1 Y2.2.2.2.2.1))) (hC : Y2.2.1 = C9) (hs : zsh g b = some (.inl ci)) (hcf : zCF C9 T9 N9 ci ty0) (hc : PW Y2 d2 P2 k2 ks2 0 ls0 [] g n) (hd : d2 + 1 ≤ d) (hbc : bc1 + k2 ≤ bc) (hbs : bs1 + ks2 ≤ bs) (hls : lv_args 0 (.ref b :: [a1, a2]) = ls0) (hm : (lg_sl (.ref b :: [a1, a2])).length ≤ Y2.2.2.2.1) (hst : (rest.map fun v => v.category).sum ≤ 8) (dd : decode Y.2.2.1 pc = .ok (.invokevirtual idx, 3))  (kk : ∀ v g1 n1, P2 (.inl v) g1 n1 → PW Y d P bc1 bs1 (pc + 3) ls (v.toList ++ rest) g1 n1) (kx : ∀ E a g1 n1, P2 (.inr (E, a)) g1 n1 → PX Y d P bc1 bs1 pc ls E a g1 n1) : PW Y d P bc bs pc ls (a2 :: a1 :: .ref b :: rest) g n := by
  intro p l e R s m args below meth c D fz N0 C H locs cells slots lr V
  have hf : d ≤ R.frames := C.2.2.2.2.2.2.2.2.2.2.1
  have hlo : 40 * d ≤ R.locals := C.2.2.2.2.2.2.2.2.2.2.2.1
  have h21 := hM.2.2.2.2.2
  refine zcall (P2 := P2) (mc := k2) (ms := ks2) (rest := rest.map (zv_tr (zr fz N0))) (vx_runV (As := [zv_tr (zr fz N0) a1, zv_tr (zr fz N0) a2]) ⟨C.1, C.2.1, C.2.2.2.1, C.own, C.hts⟩ (pw_met l C.2.2.2.2.2.2.2.2.2.1 D fz N0 hM.1 hM.2.1 hh hm hls hc) (cwV 2 C.hts hG rfl rfl rfl ⟨hM.2.1.trans hC, hM.2.2.1, hM.2.2.2.1, hM.2.2.2.2.1⟩ ⟨(by show d2 + 1 ≤ _; omega), (by show 8 + (_ + 11) + 40 * d2 ≤ _; omega)⟩) ⟨zPc_blind, zrecv C V.1 hs hcf, fun U hU hW => ⟨rfl, by rw [hU]; exact V.1, C.env.moved (by rw [hU]; exact V.2.1) hW⟩⟩ rfl rfl V.2.2.1.1 rfl (by show 2 * 0 + _ ≤ 8; rw [zcat_sum]; omega) dd ⟨(by have := V.2.2.2.1; omega), (by have := V.2.2.2.2; omega)⟩) V.2.1 (fun v g1 n1 H1 locs1 hp hR hS => by
    have h9 := kk v g1 n1 hp p l e R s m args below meth c D fz N0 C H1 locs1 (cells + k2) (slots + ks2) lr ⟨hR, hS, V.2.2.1, by have := V.2.2.2.1; omega, by have := V.2.2.2.2; omega⟩
    rw [List.map_append] at h9
    rw [show (v.toList.map (zv_tr (zr fz N0))) = (v.map (zv_tr (zr fz N0))).toList from by cases v <;> rfl] at h9
    exact h9) (fun E a g1 n1 ce H1 locs1 hp hR hS h1 h2 h3 h4 => kx E a g1 n1 hp p l e R s m args below meth c D fz N0 C H1 locs1 _ _ lr ⟨hR, hS, V.2.2.1, by have := V.2.2.2.1; omega, by have := V.2.2.2.2; omega⟩ ce _ h1 h2 h3 h4)
theorem pw_callU2 {a1 a2 : Value} (hM : zM Y2 2) (hh : Y2.2.2.2.2.2 = []) {x : MethodName} {owner : String} (hG : GoodIn lw_all (va_wsU Y.2.1 idx C9 owner x Y2.1 (ws_ Y2.1 Y2.2.2.1 Y2.2.2.2.1 Y2.2.2.2.2.1))) (hx : Y2.1 = ⟨owner, x.name, x.desc⟩) (ho : owner ≠ "java/lang/invoke/MethodHandle" ∧ owner ≠ "java/lang/invoke/VarHandle" ∧ (parseMethodDescriptor x.desc).map (fun d => d.parameters.length) = some 2) (hs : zsh g b = some (.inl ci)) (hcf : zCF C9 T9 N9 ci ty0) (hc : PW Y2 d2 P2 k2 ks2 0 ls0 [] g n) (hd : d2 + 1 ≤ d) (hbc : bc1 + k2 ≤ bc) (hbs : bs1 + ks2 ≤ bs) (hls : lv_args 0 (.ref b :: [a1, a2]) = ls0) (hm : (lg_sl (.ref b :: [a1, a2])).length ≤ Y2.2.2.2.1) (hst : (rest.map fun v => v.category).sum ≤ 8) (dd : decode Y.2.2.1 pc = .ok (.invokevirtual idx, 3)) (hnx : ∀ E a g1 n1, ¬ P2 (.inr (E, a)) g1 n1) (kk : ∀ v g1 n1, P2 (.inl v) g1 n1 → PW Y d P bc1 bs1 (pc + 3) ls (v.toList ++ rest) g1 n1)  : PW Y d P bc bs pc ls (a2 :: a1 :: .ref b :: rest) g n := by
  intro p l e R s m args below meth c D fz N0 C H locs cells slots lr V
  have hf : d ≤ R.frames := C.2.2.2.2.2.2.2.2.2.2.1
  have hlo : 40 * d ≤ R.locals := C.2.2.2.2.2.2.2.2.2.2.2.1
  have h21 := hM.2.2.2.2.2
  refine zcall (P2 := P2) (mc := k2) (ms := ks2) (rest := rest.map (zv_tr (zr fz N0))) (zrun_of (va_runU (As := [zv_tr (zr fz N0) a1, zv_tr (zr fz N0) a2]) ⟨C.1, C.2.1, C.2.2.2.1, C.own, C.hts⟩ (zmet0 (pw_met l C.2.2.2.2.2.2.2.2.2.1 D fz N0 hM.1 hM.2.1 hh hm hls hc) hnx) (va_cwU 2 C.hts hG rfl rfl rfl hx ho ⟨(by show d2 + 1 ≤ _; omega), (by show 8 + (_ + 11) + 40 * d2 ≤ _; omega)⟩) ⟨zPc_blind, zrecv C V.1 hs hcf, fun U hU hW => ⟨rfl, by rw [hU]; exact V.1, C.env.moved (by rw [hU]; exact V.2.1) hW⟩⟩ rfl rfl V.2.2.1.1 rfl (by show 2 * 0 + _ ≤ 8; rw [zcat_sum]; omega) dd ⟨(by have := V.2.2.2.1; omega), (by have := V.2.2.2.2; omega)⟩)) V.2.1 (fun v g1 n1 H1 locs1 hp hR hS => by
    have h9 := kk v g1 n1 hp p l e R s m args below meth c D fz N0 C H1 locs1 (cells + k2) (slots + ks2) lr ⟨hR, hS, V.2.2.1, by have := V.2.2.2.1; omega, by have := V.2.2.2.2; omega⟩
    rw [List.map_append] at h9
    rw [show (v.toList.map (zv_tr (zr fz N0))) = (v.map (zv_tr (zr fz N0))).toList from by cases v <;> rfl] at h9
    exact h9) (fun E a g1 n1 ce H1 locs1 hp hR hS h1 h2 h3 h4 => absurd hp (hnx _ _ _ _))
theorem pw_callVN2 {a1 a2 : Value} (hM : zM Y2 2) (hh : Y2.2.2.2.2.2 = []) {host : String} (hl : Cond.methodLinkNest Y.2.1 idx Y2.1 host ∈ lw_tbl) (hG : GoodIn lw_all (ws_ Y2.1 Y2.2.2.1 Y2.2.2.2.1 Y2.2.2.2.2.1)) (hini : Cond.initialized Y2.1.cls ∈ lw_all) (hin : Cond.instanceMethod Y2.1 ∈ lw_all) (hse : Cond.selects C9 Y2.1 Y2.1 ∈ lw_all) (hs : zsh g b = some (.inl ci)) (hcf : zCF C9 T9 N9 ci ty0) (hc : PW Y2 d2 P2 k2 ks2 0 ls0 [] g n) (hd : d2 + 1 ≤ d) (hbc : bc1 + k2 ≤ bc) (hbs : bs1 + ks2 ≤ bs) (hls : lv_args 0 (.ref b :: [a1, a2]) = ls0) (hm : (lg_sl (.ref b :: [a1, a2])).length ≤ Y2.2.2.2.1) (hst : (rest.map fun v => v.category).sum ≤ 8) (dd : decode Y.2.2.1 pc = .ok (.invokevirtual idx, 3)) (hnx : ∀ E a g1 n1, ¬ P2 (.inr (E, a)) g1 n1) (kk : ∀ v g1 n1, P2 (.inl v) g1 n1 → PW Y d P bc1 bs1 (pc + 3) ls (v.toList ++ rest) g1 n1)  : PW Y d P bc bs pc ls (a2 :: a1 :: .ref b :: rest) g n := by
  intro p l e R s m args below meth c D fz N0 C H locs cells slots lr V
  have hf : d ≤ R.frames := C.2.2.2.2.2.2.2.2.2.2.1
  have hlo : 40 * d ≤ R.locals := C.2.2.2.2.2.2.2.2.2.2.2.1
  have h21 := hM.2.2.2.2.2
  refine zcall (P2 := P2) (mc := k2) (ms := ks2) (rest := rest.map (zv_tr (zr fz N0))) (zrun_of (va_runVN (As := [zv_tr (zr fz N0) a1, zv_tr (zr fz N0) a2]) ⟨C.1, C.2.1, C.2.2.2.1, C.own, C.hts⟩ (zmet0 (pw_met l C.2.2.2.2.2.2.2.2.2.1 D fz N0 hM.1 hM.2.1 hh hm hls hc) hnx) ⟨va_cnB 2 C.hts hG rfl rfl rfl (C.env.2.2.2.2.1 _ hl rfl) (C.hts _ hini) ⟨hM.2.2.1, hM.2.2.2.1, hM.2.2.2.2.1⟩ ⟨(by show d2 + 1 ≤ _; omega), (by show 8 + (_ + 11) + 40 * d2 ≤ _; omega)⟩, C.hts _ hin, C.hts _ hse⟩ ⟨zPc_blind, zrecv C V.1 hs hcf, fun U hU hW => ⟨rfl, by rw [hU]; exact V.1, C.env.moved (by rw [hU]; exact V.2.1) hW⟩⟩ rfl rfl V.2.2.1.1 rfl (by show 2 * 0 + _ ≤ 8; rw [zcat_sum]; omega) dd ⟨(by have := V.2.2.2.1; omega), (by have := V.2.2.2.2; omega)⟩)) V.2.1 (fun v g1 n1 H1 locs1 hp hR hS => by
    have h9 := kk v g1 n1 hp p l e R s m args below meth c D fz N0 C H1 locs1 (cells + k2) (slots + ks2) lr ⟨hR, hS, V.2.2.1, by have := V.2.2.2.1; omega, by have := V.2.2.2.2; omega⟩
    rw [List.map_append] at h9
    rw [show (v.toList.map (zv_tr (zr fz N0))) = (v.map (zv_tr (zr fz N0))).toList from by cases v <;> rfl] at h9
    exact h9) (fun E a g1 n1 ce H1 locs1 hp hR hS h1 h2 h3 h4 => absurd hp (hnx _ _ _ _))
theorem pw_callS2 {a1 a2 : Value} (hM : zM Y2 2) (hh : Y2.2.2.2.2.2 = []) (hG : GoodIn lw_all (va_wsS Y.2.1 idx Y2.1 (ws_ Y2.1 Y2.2.2.1 Y2.2.2.2.1 Y2.2.2.2.2.1))) (hc : PW Y2 d2 P2 k2 ks2 0 ls0 [] g n) (hd : d2 + 1 ≤ d) (hbc : bc1 + k2 ≤ bc) (hbs : bs1 + ks2 ≤ bs) (hls : lv_args 0 [a1, a2] = ls0) (hm : (lg_sl [a1, a2]).length ≤ Y2.2.2.2.1) (hst : (rest.map fun v => v.category).sum ≤ 8) (dd : decode Y.2.2.1 pc = .ok (.invokestatic idx, 3)) (hnx : ∀ E a g1 n1, ¬ P2 (.inr (E, a)) g1 n1) (kk : ∀ v g1 n1, P2 (.inl v) g1 n1 → PW Y d P bc1 bs1 (pc + 3) ls (v.toList ++ rest) g1 n1)  : PW Y d P bc bs pc ls (a2 :: a1 :: rest) g n := by
  intro p l e R s m args below meth c D fz N0 C H locs cells slots lr V
  have hf : d ≤ R.frames := C.2.2.2.2.2.2.2.2.2.2.1
  have hlo : 40 * d ≤ R.locals := C.2.2.2.2.2.2.2.2.2.2.2.1
  have h21 := hM.2.2.2.2.2
  refine zcall (P2 := P2) (mc := k2) (ms := ks2) (rest := rest.map (zv_tr (zr fz N0))) (zrun_of (va_runS (As := [zv_tr (zr fz N0) a1, zv_tr (zr fz N0) a2]) ⟨C.1, C.2.1, C.2.2.2.1, C.own, C.hts⟩ (zmet0 (pw_met l C.2.2.2.2.2.2.2.2.2.1 D fz N0 hM.1 hM.2.1 hh hm hls hc) hnx) (va_cwS 2 C.hts hG rfl rfl rfl ⟨hM.2.2.1, hM.2.2.2.1, hM.2.2.2.2.1⟩ ⟨(by show d2 + 1 ≤ _; omega), (by show 8 + (_ + 11) + 40 * d2 ≤ _; omega)⟩) ⟨zPc_blind, fun U hU hW => ⟨rfl, by rw [hU]; exact V.1, C.env.moved (by rw [hU]; exact V.2.1) hW⟩⟩ rfl rfl V.2.2.1.1 rfl (by show 2 * 0 + _ ≤ 8; rw [zcat_sum]; omega) dd ⟨(by have := V.2.2.2.1; omega), (by have := V.2.2.2.2; omega)⟩)) V.2.1 (fun v g1 n1 H1 locs1 hp hR hS => by
    have h9 := kk v g1 n1 hp p l e R s m args below meth c D fz N0 C H1 locs1 (cells + k2) (slots + ks2) lr ⟨hR, hS, V.2.2.1, by have := V.2.2.2.1; omega, by have := V.2.2.2.2; omega⟩
    rw [List.map_append] at h9
    rw [show (v.toList.map (zv_tr (zr fz N0))) = (v.map (zv_tr (zr fz N0))).toList from by cases v <;> rfl] at h9
    exact h9) (fun E a g1 n1 ce H1 locs1 hp hR hS h1 h2 h3 h4 => absurd hp (hnx _ _ _ _))
theorem pw_callI2 {a1 a2 : Value} (hM : zM Y2 2) (hh : Y2.2.2.2.2.2 = []) (hret : Y2.2.2.2.2.1 = none) (hy1 : Y2.1.name = "<init>") (hG : GoodIn lw_all (ws_ Y2.1 Y2.2.2.1 Y2.2.2.2.1 none)) (hini : Cond.initialized Y2.1.cls ∈ lw_all) (hl : Cond.methodLink Y.2.1 idx Y2.1 ∈ lw_all) (hin : Cond.instanceMethod Y2.1 ∈ lw_all) (hc : PW Y2 d2 P2 k2 ks2 0 ls0 [] g n) (hd : d2 + 1 ≤ d) (hbc : bc1 + k2 ≤ bc) (hbs : bs1 + ks2 ≤ bs) (hls : lv_args 0 (.ref b :: [a1, a2]) = ls0) (hm : (lg_sl (.ref b :: [a1, a2])).length ≤ Y2.2.2.2.1) (hst : (rest.map fun v => v.category).sum ≤ 8) (dd : decode Y.2.2.1 pc = .ok (.invokespecial idx, 3)) (hnx : ∀ E a g1 n1, ¬ P2 (.inr (E, a)) g1 n1) (kk : ∀ v g1 n1, P2 (.inl v) g1 n1 → PW Y d P bc1 bs1 (pc + 3) ls (v.toList ++ rest) g1 n1) : PW Y d P bc bs pc ls (a2 :: a1 :: .ref b :: rest) g n := by
  intro p l e R s m args below meth c D fz N0 C H locs cells slots lr V
  have hf : d ≤ R.frames := C.2.2.2.2.2.2.2.2.2.2.1
  have hlo : 40 * d ≤ R.locals := C.2.2.2.2.2.2.2.2.2.2.2.1
  have h21 := hM.2.2.2.2.2
  have hmet := zmet0 (pw_met l C.2.2.2.2.2.2.2.2.2.1 D fz N0 hM.1 hM.2.1 hh hm hls hc) hnx
  rw [hret] at hmet
  refine zcall (P2 := P2) (mc := k2) (ms := ks2) (rest := rest.map (zv_tr (zr fz N0))) (zrun_of (va_runI (As := [zv_tr (zr fz N0) a1, zv_tr (zr fz N0) a2]) ⟨C.1, C.2.1, C.2.2.2.1, C.own, C.hts⟩ hmet (cwI 2 C.hts hG rfl rfl rfl (C.hts _ hini) (C.hts _ hl) (C.hts _ hin) hy1 ⟨hM.2.2.1, hM.2.2.2.1, hM.2.2.2.2.1⟩ ⟨(by show d2 + 1 ≤ _; omega), (by show 8 + (_ + 11) + 40 * d2 ≤ _; omega)⟩) ⟨zPc_blind, fun U hU hW => ⟨rfl, by rw [hU]; exact V.1, C.env.moved (by rw [hU]; exact V.2.1) hW⟩⟩ rfl rfl V.2.2.1.1 rfl (by show 2 * 0 + _ ≤ 8; rw [zcat_sum]; omega) dd ⟨(by have := V.2.2.2.1; omega), (by have := V.2.2.2.2; omega)⟩)) V.2.1 (fun v g1 n1 H1 locs1 hp hR hS => by
    have h9 := kk v g1 n1 hp p l e R s m args below meth c D fz N0 C H1 locs1 (cells + k2) (slots + ks2) lr ⟨hR, hS, V.2.2.1, by have := V.2.2.2.1; omega, by have := V.2.2.2.2; omega⟩
    rw [List.map_append] at h9
    rw [show (v.toList.map (zv_tr (zr fz N0))) = (v.map (zv_tr (zr fz N0))).toList from by cases v <;> rfl] at h9
    exact h9) (fun E a g1 n1 ce H1 locs1 hp hR hS h1 h2 h3 h4 => absurd hp (hnx _ _ _ _))
theorem pw_callIN2 {a1 a2 : Value} (hM : zM Y2 2) (hh : Y2.2.2.2.2.2 = []) (hret : Y2.2.2.2.2.1 = none) (hy1 : Y2.1.name = "<init>") {host : String} (hl : Cond.methodLinkNest Y.2.1 idx Y2.1 host ∈ lw_tbl) (hG : GoodIn lw_all (ws_ Y2.1 Y2.2.2.1 Y2.2.2.2.1 none)) (hini : Cond.initialized Y2.1.cls ∈ lw_all) (hin : Cond.instanceMethod Y2.1 ∈ lw_all) (hc : PW Y2 d2 P2 k2 ks2 0 ls0 [] g n) (hd : d2 + 1 ≤ d) (hbc : bc1 + k2 ≤ bc) (hbs : bs1 + ks2 ≤ bs) (hls : lv_args 0 (.ref b :: [a1, a2]) = ls0) (hm : (lg_sl (.ref b :: [a1, a2])).length ≤ Y2.2.2.2.1) (hst : (rest.map fun v => v.category).sum ≤ 8) (dd : decode Y.2.2.1 pc = .ok (.invokespecial idx, 3)) (hnx : ∀ E a g1 n1, ¬ P2 (.inr (E, a)) g1 n1) (kk : ∀ v g1 n1, P2 (.inl v) g1 n1 → PW Y d P bc1 bs1 (pc + 3) ls (v.toList ++ rest) g1 n1) : PW Y d P bc bs pc ls (a2 :: a1 :: .ref b :: rest) g n := by
  intro p l e R s m args below meth c D fz N0 C H locs cells slots lr V
  have hf : d ≤ R.frames := C.2.2.2.2.2.2.2.2.2.2.1
  have hlo : 40 * d ≤ R.locals := C.2.2.2.2.2.2.2.2.2.2.2.1
  have h21 := hM.2.2.2.2.2
  have hmet := zmet0 (pw_met l C.2.2.2.2.2.2.2.2.2.1 D fz N0 hM.1 hM.2.1 hh hm hls hc) hnx
  rw [hret] at hmet
  refine zcall (P2 := P2) (mc := k2) (ms := ks2) (rest := rest.map (zv_tr (zr fz N0))) (zrun_of (va_runIN (As := [zv_tr (zr fz N0) a1, zv_tr (zr fz N0) a2]) ⟨C.1, C.2.1, C.2.2.2.1, C.own, C.hts⟩ hmet ⟨va_cnB 2 C.hts hG rfl rfl rfl (C.env.2.2.2.2.1 _ hl rfl) (C.hts _ hini) ⟨hM.2.2.1, hM.2.2.2.1, hM.2.2.2.2.1⟩ ⟨(by show d2 + 1 ≤ _; omega), (by show 8 + (_ + 11) + 40 * d2 ≤ _; omega)⟩, hy1, C.hts _ hin⟩ ⟨zPc_blind, fun U hU hW => ⟨rfl, by rw [hU]; exact V.1, C.env.moved (by rw [hU]; exact V.2.1) hW⟩⟩ rfl rfl V.2.2.1.1 rfl (by show 2 * 0 + _ ≤ 8; rw [zcat_sum]; omega) dd ⟨(by have := V.2.2.2.1; omega), (by have := V.2.2.2.2; omega)⟩)) V.2.1 (fun v g1 n1 H1 locs1 hp hR hS => by
    have h9 := kk v g1 n1 hp p l e R s m args below meth c D fz N0 C H1 locs1 (cells + k2) (slots + ks2) lr ⟨hR, hS, V.2.2.1, by have := V.2.2.2.1; omega, by have := V.2.2.2.2; omega⟩
    rw [List.map_append] at h9
    rw [show (v.toList.map (zv_tr (zr fz N0))) = (v.map (zv_tr (zr fz N0))).toList from by cases v <;> rfl] at h9
    exact h9) (fun E a g1 n1 ce H1 locs1 hp hR hS h1 h2 h3 h4 => absurd hp (hnx _ _ _ _))
theorem pw_callV3 {a1 a2 a3 : Value} (hM : zM Y2 3) (hh : Y2.2.2.2.2.2 = []) (hG : GoodIn lw_all (wsV Y.2.1 idx C9 Y2.1 (ws_ Y2.1 Y2.2.2.1 Y2.2.2.2.1 Y2.2.2.2.2.1))) (hC : Y2.2.1 = C9) (hs : zsh g b = some (.inl ci)) (hcf : zCF C9 T9 N9 ci ty0) (hc : PW Y2 d2 P2 k2 ks2 0 ls0 [] g n) (hd : d2 + 1 ≤ d) (hbc : bc1 + k2 ≤ bc) (hbs : bs1 + ks2 ≤ bs) (hls : lv_args 0 (.ref b :: [a1, a2, a3]) = ls0) (hm : (lg_sl (.ref b :: [a1, a2, a3])).length ≤ Y2.2.2.2.1) (hst : (rest.map fun v => v.category).sum ≤ 8) (dd : decode Y.2.2.1 pc = .ok (.invokevirtual idx, 3)) (hnx : ∀ E a g1 n1, ¬ P2 (.inr (E, a)) g1 n1) (kk : ∀ v g1 n1, P2 (.inl v) g1 n1 → PW Y d P bc1 bs1 (pc + 3) ls (v.toList ++ rest) g1 n1)  : PW Y d P bc bs pc ls (a3 :: a2 :: a1 :: .ref b :: rest) g n := by
  intro p l e R s m args below meth c D fz N0 C H locs cells slots lr V
  have hf : d ≤ R.frames := C.2.2.2.2.2.2.2.2.2.2.1
  have hlo : 40 * d ≤ R.locals := C.2.2.2.2.2.2.2.2.2.2.2.1
  have h21 := hM.2.2.2.2.2
  refine zcall (P2 := P2) (mc := k2) (ms := ks2) (rest := rest.map (zv_tr (zr fz N0))) (zrun_of (va_runV (As := [zv_tr (zr fz N0) a1, zv_tr (zr fz N0) a2, zv_tr (zr fz N0) a3]) ⟨C.1, C.2.1, C.2.2.2.1, C.own, C.hts⟩ (zmet0 (pw_met l C.2.2.2.2.2.2.2.2.2.1 D fz N0 hM.1 hM.2.1 hh hm hls hc) hnx) (cwV 3 C.hts hG rfl rfl rfl ⟨hM.2.1.trans hC, hM.2.2.1, hM.2.2.2.1, hM.2.2.2.2.1⟩ ⟨(by show d2 + 1 ≤ _; omega), (by show 8 + (_ + 11) + 40 * d2 ≤ _; omega)⟩) ⟨zPc_blind, zrecv C V.1 hs hcf, fun U hU hW => ⟨rfl, by rw [hU]; exact V.1, C.env.moved (by rw [hU]; exact V.2.1) hW⟩⟩ rfl rfl V.2.2.1.1 rfl (by show 2 * 0 + _ ≤ 8; rw [zcat_sum]; omega) dd ⟨(by have := V.2.2.2.1; omega), (by have := V.2.2.2.2; omega)⟩)) V.2.1 (fun v g1 n1 H1 locs1 hp hR hS => by
    have h9 := kk v g1 n1 hp p l e R s m args below meth c D fz N0 C H1 locs1 (cells + k2) (slots + ks2) lr ⟨hR, hS, V.2.2.1, by have := V.2.2.2.1; omega, by have := V.2.2.2.2; omega⟩
    rw [List.map_append] at h9
    rw [show (v.toList.map (zv_tr (zr fz N0))) = (v.map (zv_tr (zr fz N0))).toList from by cases v <;> rfl] at h9
    exact h9) (fun E a g1 n1 ce H1 locs1 hp hR hS h1 h2 h3 h4 => absurd hp (hnx _ _ _ _))
theorem pw_callVx3 {a1 a2 a3 : Value} (hM : zM Y2 3) (hh : Y2.2.2.2.2.2 = []) (hG : GoodIn lw_all (wsV Y.2.1 idx C9 Y2.1 (ws_ Y2.1 Y2.2.2.1 Y2.2.2.2.1 Y2.2.2.2.2.1))) (hC : Y2.2.1 = C9) (hs : zsh g b = some (.inl ci)) (hcf : zCF C9 T9 N9 ci ty0) (hc : PW Y2 d2 P2 k2 ks2 0 ls0 [] g n) (hd : d2 + 1 ≤ d) (hbc : bc1 + k2 ≤ bc) (hbs : bs1 + ks2 ≤ bs) (hls : lv_args 0 (.ref b :: [a1, a2, a3]) = ls0) (hm : (lg_sl (.ref b :: [a1, a2, a3])).length ≤ Y2.2.2.2.1) (hst : (rest.map fun v => v.category).sum ≤ 8) (dd : decode Y.2.2.1 pc = .ok (.invokevirtual idx, 3))  (kk : ∀ v g1 n1, P2 (.inl v) g1 n1 → PW Y d P bc1 bs1 (pc + 3) ls (v.toList ++ rest) g1 n1) (kx : ∀ E a g1 n1, P2 (.inr (E, a)) g1 n1 → PX Y d P bc1 bs1 pc ls E a g1 n1) : PW Y d P bc bs pc ls (a3 :: a2 :: a1 :: .ref b :: rest) g n := by
  intro p l e R s m args below meth c D fz N0 C H locs cells slots lr V
  have hf : d ≤ R.frames := C.2.2.2.2.2.2.2.2.2.2.1
  have hlo : 40 * d ≤ R.locals := C.2.2.2.2.2.2.2.2.2.2.2.1
  have h21 := hM.2.2.2.2.2
  refine zcall (P2 := P2) (mc := k2) (ms := ks2) (rest := rest.map (zv_tr (zr fz N0))) (vx_runV (As := [zv_tr (zr fz N0) a1, zv_tr (zr fz N0) a2, zv_tr (zr fz N0) a3]) ⟨C.1, C.2.1, C.2.2.2.1, C.own, C.hts⟩ (pw_met l C.2.2.2.2.2.2.2.2.2.1 D fz N0 hM.1 hM.2.1 hh hm hls hc) (cwV 3 C.hts hG rfl rfl rfl ⟨hM.2.1.trans hC, hM.2.2.1, hM.2.2.2.1, hM.2.2.2.2.1⟩ ⟨(by show d2 + 1 ≤ _; omega), (by show 8 + (_ + 11) + 40 * d2 ≤ _; omega)⟩) ⟨zPc_blind, zrecv C V.1 hs hcf, fun U hU hW => ⟨rfl, by rw [hU]; exact V.1, C.env.moved (by rw [hU]; exact V.2.1) hW⟩⟩ rfl rfl V.2.2.1.1 rfl (by show 2 * 0 + _ ≤ 8; rw [zcat_sum]; omega) dd ⟨(by have := V.2.2.2.1; omega), (by have := V.2.2.2.2; omega)⟩) V.2.1 (fun v g1 n1 H1 locs1 hp hR hS => by
    have h9 := kk v g1 n1 hp p l e R s m args below meth c D fz N0 C H1 locs1 (cells + k2) (slots + ks2) lr ⟨hR, hS, V.2.2.1, by have := V.2.2.2.1; omega, by have := V.2.2.2.2; omega⟩
    rw [List.map_append] at h9
    rw [show (v.toList.map (zv_tr (zr fz N0))) = (v.map (zv_tr (zr fz N0))).toList from by cases v <;> rfl] at h9
    exact h9) (fun E a g1 n1 ce H1 locs1 hp hR hS h1 h2 h3 h4 => kx E a g1 n1 hp p l e R s m args below meth c D fz N0 C H1 locs1 _ _ lr ⟨hR, hS, V.2.2.1, by have := V.2.2.2.1; omega, by have := V.2.2.2.2; omega⟩ ce _ h1 h2 h3 h4)
theorem pw_callU3 {a1 a2 a3 : Value} (hM : zM Y2 3) (hh : Y2.2.2.2.2.2 = []) {x : MethodName} {owner : String} (hG : GoodIn lw_all (va_wsU Y.2.1 idx C9 owner x Y2.1 (ws_ Y2.1 Y2.2.2.1 Y2.2.2.2.1 Y2.2.2.2.2.1))) (hx : Y2.1 = ⟨owner, x.name, x.desc⟩) (ho : owner ≠ "java/lang/invoke/MethodHandle" ∧ owner ≠ "java/lang/invoke/VarHandle" ∧ (parseMethodDescriptor x.desc).map (fun d => d.parameters.length) = some 3) (hs : zsh g b = some (.inl ci)) (hcf : zCF C9 T9 N9 ci ty0) (hc : PW Y2 d2 P2 k2 ks2 0 ls0 [] g n) (hd : d2 + 1 ≤ d) (hbc : bc1 + k2 ≤ bc) (hbs : bs1 + ks2 ≤ bs) (hls : lv_args 0 (.ref b :: [a1, a2, a3]) = ls0) (hm : (lg_sl (.ref b :: [a1, a2, a3])).length ≤ Y2.2.2.2.1) (hst : (rest.map fun v => v.category).sum ≤ 8) (dd : decode Y.2.2.1 pc = .ok (.invokevirtual idx, 3)) (hnx : ∀ E a g1 n1, ¬ P2 (.inr (E, a)) g1 n1) (kk : ∀ v g1 n1, P2 (.inl v) g1 n1 → PW Y d P bc1 bs1 (pc + 3) ls (v.toList ++ rest) g1 n1)  : PW Y d P bc bs pc ls (a3 :: a2 :: a1 :: .ref b :: rest) g n := by
  intro p l e R s m args below meth c D fz N0 C H locs cells slots lr V
  have hf : d ≤ R.frames := C.2.2.2.2.2.2.2.2.2.2.1
  have hlo : 40 * d ≤ R.locals := C.2.2.2.2.2.2.2.2.2.2.2.1
  have h21 := hM.2.2.2.2.2
  refine zcall (P2 := P2) (mc := k2) (ms := ks2) (rest := rest.map (zv_tr (zr fz N0))) (zrun_of (va_runU (As := [zv_tr (zr fz N0) a1, zv_tr (zr fz N0) a2, zv_tr (zr fz N0) a3]) ⟨C.1, C.2.1, C.2.2.2.1, C.own, C.hts⟩ (zmet0 (pw_met l C.2.2.2.2.2.2.2.2.2.1 D fz N0 hM.1 hM.2.1 hh hm hls hc) hnx) (va_cwU 3 C.hts hG rfl rfl rfl hx ho ⟨(by show d2 + 1 ≤ _; omega), (by show 8 + (_ + 11) + 40 * d2 ≤ _; omega)⟩) ⟨zPc_blind, zrecv C V.1 hs hcf, fun U hU hW => ⟨rfl, by rw [hU]; exact V.1, C.env.moved (by rw [hU]; exact V.2.1) hW⟩⟩ rfl rfl V.2.2.1.1 rfl (by show 2 * 0 + _ ≤ 8; rw [zcat_sum]; omega) dd ⟨(by have := V.2.2.2.1; omega), (by have := V.2.2.2.2; omega)⟩)) V.2.1 (fun v g1 n1 H1 locs1 hp hR hS => by
    have h9 := kk v g1 n1 hp p l e R s m args below meth c D fz N0 C H1 locs1 (cells + k2) (slots + ks2) lr ⟨hR, hS, V.2.2.1, by have := V.2.2.2.1; omega, by have := V.2.2.2.2; omega⟩
    rw [List.map_append] at h9
    rw [show (v.toList.map (zv_tr (zr fz N0))) = (v.map (zv_tr (zr fz N0))).toList from by cases v <;> rfl] at h9
    exact h9) (fun E a g1 n1 ce H1 locs1 hp hR hS h1 h2 h3 h4 => absurd hp (hnx _ _ _ _))
theorem pw_callVN3 {a1 a2 a3 : Value} (hM : zM Y2 3) (hh : Y2.2.2.2.2.2 = []) {host : String} (hl : Cond.methodLinkNest Y.2.1 idx Y2.1 host ∈ lw_tbl) (hG : GoodIn lw_all (ws_ Y2.1 Y2.2.2.1 Y2.2.2.2.1 Y2.2.2.2.2.1)) (hini : Cond.initialized Y2.1.cls ∈ lw_all) (hin : Cond.instanceMethod Y2.1 ∈ lw_all) (hse : Cond.selects C9 Y2.1 Y2.1 ∈ lw_all) (hs : zsh g b = some (.inl ci)) (hcf : zCF C9 T9 N9 ci ty0) (hc : PW Y2 d2 P2 k2 ks2 0 ls0 [] g n) (hd : d2 + 1 ≤ d) (hbc : bc1 + k2 ≤ bc) (hbs : bs1 + ks2 ≤ bs) (hls : lv_args 0 (.ref b :: [a1, a2, a3]) = ls0) (hm : (lg_sl (.ref b :: [a1, a2, a3])).length ≤ Y2.2.2.2.1) (hst : (rest.map fun v => v.category).sum ≤ 8) (dd : decode Y.2.2.1 pc = .ok (.invokevirtual idx, 3)) (hnx : ∀ E a g1 n1, ¬ P2 (.inr (E, a)) g1 n1) (kk : ∀ v g1 n1, P2 (.inl v) g1 n1 → PW Y d P bc1 bs1 (pc + 3) ls (v.toList ++ rest) g1 n1)  : PW Y d P bc bs pc ls (a3 :: a2 :: a1 :: .ref b :: rest) g n := by
  intro p l e R s m args below meth c D fz N0 C H locs cells slots lr V
  have hf : d ≤ R.frames := C.2.2.2.2.2.2.2.2.2.2.1
  have hlo : 40 * d ≤ R.locals := C.2.2.2.2.2.2.2.2.2.2.2.1
  have h21 := hM.2.2.2.2.2
  refine zcall (P2 := P2) (mc := k2) (ms := ks2) (rest := rest.map (zv_tr (zr fz N0))) (zrun_of (va_runVN (As := [zv_tr (zr fz N0) a1, zv_tr (zr fz N0) a2, zv_tr (zr fz N0) a3]) ⟨C.1, C.2.1, C.2.2.2.1, C.own, C.hts⟩ (zmet0 (pw_met l C.2.2.2.2.2.2.2.2.2.1 D fz N0 hM.1 hM.2.1 hh hm hls hc) hnx) ⟨va_cnB 3 C.hts hG rfl rfl rfl (C.env.2.2.2.2.1 _ hl rfl) (C.hts _ hini) ⟨hM.2.2.1, hM.2.2.2.1, hM.2.2.2.2.1⟩ ⟨(by show d2 + 1 ≤ _; omega), (by show 8 + (_ + 11) + 40 * d2 ≤ _; omega)⟩, C.hts _ hin, C.hts _ hse⟩ ⟨zPc_blind, zrecv C V.1 hs hcf, fun U hU hW => ⟨rfl, by rw [hU]; exact V.1, C.env.moved (by rw [hU]; exact V.2.1) hW⟩⟩ rfl rfl V.2.2.1.1 rfl (by show 2 * 0 + _ ≤ 8; rw [zcat_sum]; omega) dd ⟨(by have := V.2.2.2.1; omega), (by have := V.2.2.2.2; omega)⟩)) V.2.1 (fun v g1 n1 H1 locs1 hp hR hS => by
    have h9 := kk v g1 n1 hp p l e R s m args below meth c D fz N0 C H1 locs1 (cells + k2) (slots + ks2) lr ⟨hR, hS, V.2.2.1, by have := V.2.2.2.1; omega, by have := V.2.2.2.2; omega⟩
    rw [List.map_append] at h9
    rw [show (v.toList.map (zv_tr (zr fz N0))) = (v.map (zv_tr (zr fz N0))).toList from by cases v <;> rfl] at h9
    exact h9) (fun E a g1 n1 ce H1 locs1 hp hR hS h1 h2 h3 h4 => absurd hp (hnx _ _ _ _))
theorem pw_callS3 {a1 a2 a3 : Value} (hM : zM Y2 3) (hh : Y2.2.2.2.2.2 = []) (hG : GoodIn lw_all (va_wsS Y.2.1 idx Y2.1 (ws_ Y2.1 Y2.2.2.1 Y2.2.2.2.1 Y2.2.2.2.2.1))) (hc : PW Y2 d2 P2 k2 ks2 0 ls0 [] g n) (hd : d2 + 1 ≤ d) (hbc : bc1 + k2 ≤ bc) (hbs : bs1 + ks2 ≤ bs) (hls : lv_args 0 [a1, a2, a3] = ls0) (hm : (lg_sl [a1, a2, a3]).length ≤ Y2.2.2.2.1) (hst : (rest.map fun v => v.category).sum ≤ 8) (dd : decode Y.2.2.1 pc = .ok (.invokestatic idx, 3)) (hnx : ∀ E a g1 n1, ¬ P2 (.inr (E, a)) g1 n1) (kk : ∀ v g1 n1, P2 (.inl v) g1 n1 → PW Y d P bc1 bs1 (pc + 3) ls (v.toList ++ rest) g1 n1)  : PW Y d P bc bs pc ls (a3 :: a2 :: a1 :: rest) g n := by
  intro p l e R s m args below meth c D fz N0 C H locs cells slots lr V
  have hf : d ≤ R.frames := C.2.2.2.2.2.2.2.2.2.2.1
  have hlo : 40 * d ≤ R.locals := C.2.2.2.2.2.2.2.2.2.2.2.1
  have h21 := hM.2.2.2.2.2
  refine zcall (P2 := P2) (mc := k2) (ms := ks2) (rest := rest.map (zv_tr (zr fz N0))) (zrun_of (va_runS (As := [zv_tr (zr fz N0) a1, zv_tr (zr fz N0) a2, zv_tr (zr fz N0) a3]) ⟨C.1, C.2.1, C.2.2.2.1, C.own, C.hts⟩ (zmet0 (pw_met l C.2.2.2.2.2.2.2.2.2.1 D fz N0 hM.1 hM.2.1 hh hm hls hc) hnx) (va_cwS 3 C.hts hG rfl rfl rfl ⟨hM.2.2.1, hM.2.2.2.1, hM.2.2.2.2.1⟩ ⟨(by show d2 + 1 ≤ _; omega), (by show 8 + (_ + 11) + 40 * d2 ≤ _; omega)⟩) ⟨zPc_blind, fun U hU hW => ⟨rfl, by rw [hU]; exact V.1, C.env.moved (by rw [hU]; exact V.2.1) hW⟩⟩ rfl rfl V.2.2.1.1 rfl (by show 2 * 0 + _ ≤ 8; rw [zcat_sum]; omega) dd ⟨(by have := V.2.2.2.1; omega), (by have := V.2.2.2.2; omega)⟩)) V.2.1 (fun v g1 n1 H1 locs1 hp hR hS => by
    have h9 := kk v g1 n1 hp p l e R s m args below meth c D fz N0 C H1 locs1 (cells + k2) (slots + ks2) lr ⟨hR, hS, V.2.2.1, by have := V.2.2.2.1; omega, by have := V.2.2.2.2; omega⟩
    rw [List.map_append] at h9
    rw [show (v.toList.map (zv_tr (zr fz N0))) = (v.map (zv_tr (zr fz N0))).toList from by cases v <;> rfl] at h9
    exact h9) (fun E a g1 n1 ce H1 locs1 hp hR hS h1 h2 h3 h4 => absurd hp (hnx _ _ _ _))
theorem pw_callI3 {a1 a2 a3 : Value} (hM : zM Y2 3) (hh : Y2.2.2.2.2.2 = []) (hret : Y2.2.2.2.2.1 = none) (hy1 : Y2.1.name = "<init>") (hG : GoodIn lw_all (ws_ Y2.1 Y2.2.2.1 Y2.2.2.2.1 none)) (hini : Cond.initialized Y2.1.cls ∈ lw_all) (hl : Cond.methodLink Y.2.1 idx Y2.1 ∈ lw_all) (hin : Cond.instanceMethod Y2.1 ∈ lw_all) (hc : PW Y2 d2 P2 k2 ks2 0 ls0 [] g n) (hd : d2 + 1 ≤ d) (hbc : bc1 + k2 ≤ bc) (hbs : bs1 + ks2 ≤ bs) (hls : lv_args 0 (.ref b :: [a1, a2, a3]) = ls0) (hm : (lg_sl (.ref b :: [a1, a2, a3])).length ≤ Y2.2.2.2.1) (hst : (rest.map fun v => v.category).sum ≤ 8) (dd : decode Y.2.2.1 pc = .ok (.invokespecial idx, 3)) (hnx : ∀ E a g1 n1, ¬ P2 (.inr (E, a)) g1 n1) (kk : ∀ v g1 n1, P2 (.inl v) g1 n1 → PW Y d P bc1 bs1 (pc + 3) ls (v.toList ++ rest) g1 n1) : PW Y d P bc bs pc ls (a3 :: a2 :: a1 :: .ref b :: rest) g n := by
  intro p l e R s m args below meth c D fz N0 C H locs cells slots lr V
  have hf : d ≤ R.frames := C.2.2.2.2.2.2.2.2.2.2.1
  have hlo : 40 * d ≤ R.locals := C.2.2.2.2.2.2.2.2.2.2.2.1
  have h21 := hM.2.2.2.2.2
  have hmet := zmet0 (pw_met l C.2.2.2.2.2.2.2.2.2.1 D fz N0 hM.1 hM.2.1 hh hm hls hc) hnx
  rw [hret] at hmet
  refine zcall (P2 := P2) (mc := k2) (ms := ks2) (rest := rest.map (zv_tr (zr fz N0))) (zrun_of (va_runI (As := [zv_tr (zr fz N0) a1, zv_tr (zr fz N0) a2, zv_tr (zr fz N0) a3]) ⟨C.1, C.2.1, C.2.2.2.1, C.own, C.hts⟩ hmet (cwI 3 C.hts hG rfl rfl rfl (C.hts _ hini) (C.hts _ hl) (C.hts _ hin) hy1 ⟨hM.2.2.1, hM.2.2.2.1, hM.2.2.2.2.1⟩ ⟨(by show d2 + 1 ≤ _; omega), (by show 8 + (_ + 11) + 40 * d2 ≤ _; omega)⟩) ⟨zPc_blind, fun U hU hW => ⟨rfl, by rw [hU]; exact V.1, C.env.moved (by rw [hU]; exact V.2.1) hW⟩⟩ rfl rfl V.2.2.1.1 rfl (by show 2 * 0 + _ ≤ 8; rw [zcat_sum]; omega) dd ⟨(by have := V.2.2.2.1; omega), (by have := V.2.2.2.2; omega)⟩)) V.2.1 (fun v g1 n1 H1 locs1 hp hR hS => by
    have h9 := kk v g1 n1 hp p l e R s m args below meth c D fz N0 C H1 locs1 (cells + k2) (slots + ks2) lr ⟨hR, hS, V.2.2.1, by have := V.2.2.2.1; omega, by have := V.2.2.2.2; omega⟩
    rw [List.map_append] at h9
    rw [show (v.toList.map (zv_tr (zr fz N0))) = (v.map (zv_tr (zr fz N0))).toList from by cases v <;> rfl] at h9
    exact h9) (fun E a g1 n1 ce H1 locs1 hp hR hS h1 h2 h3 h4 => absurd hp (hnx _ _ _ _))
theorem pw_callIN3 {a1 a2 a3 : Value} (hM : zM Y2 3) (hh : Y2.2.2.2.2.2 = []) (hret : Y2.2.2.2.2.1 = none) (hy1 : Y2.1.name = "<init>") {host : String} (hl : Cond.methodLinkNest Y.2.1 idx Y2.1 host ∈ lw_tbl) (hG : GoodIn lw_all (ws_ Y2.1 Y2.2.2.1 Y2.2.2.2.1 none)) (hini : Cond.initialized Y2.1.cls ∈ lw_all) (hin : Cond.instanceMethod Y2.1 ∈ lw_all) (hc : PW Y2 d2 P2 k2 ks2 0 ls0 [] g n) (hd : d2 + 1 ≤ d) (hbc : bc1 + k2 ≤ bc) (hbs : bs1 + ks2 ≤ bs) (hls : lv_args 0 (.ref b :: [a1, a2, a3]) = ls0) (hm : (lg_sl (.ref b :: [a1, a2, a3])).length ≤ Y2.2.2.2.1) (hst : (rest.map fun v => v.category).sum ≤ 8) (dd : decode Y.2.2.1 pc = .ok (.invokespecial idx, 3)) (hnx : ∀ E a g1 n1, ¬ P2 (.inr (E, a)) g1 n1) (kk : ∀ v g1 n1, P2 (.inl v) g1 n1 → PW Y d P bc1 bs1 (pc + 3) ls (v.toList ++ rest) g1 n1) : PW Y d P bc bs pc ls (a3 :: a2 :: a1 :: .ref b :: rest) g n := by
  intro p l e R s m args below meth c D fz N0 C H locs cells slots lr V
  have hf : d ≤ R.frames := C.2.2.2.2.2.2.2.2.2.2.1
  have hlo : 40 * d ≤ R.locals := C.2.2.2.2.2.2.2.2.2.2.2.1
  have h21 := hM.2.2.2.2.2
  have hmet := zmet0 (pw_met l C.2.2.2.2.2.2.2.2.2.1 D fz N0 hM.1 hM.2.1 hh hm hls hc) hnx
  rw [hret] at hmet
  refine zcall (P2 := P2) (mc := k2) (ms := ks2) (rest := rest.map (zv_tr (zr fz N0))) (zrun_of (va_runIN (As := [zv_tr (zr fz N0) a1, zv_tr (zr fz N0) a2, zv_tr (zr fz N0) a3]) ⟨C.1, C.2.1, C.2.2.2.1, C.own, C.hts⟩ hmet ⟨va_cnB 3 C.hts hG rfl rfl rfl (C.env.2.2.2.2.1 _ hl rfl) (C.hts _ hini) ⟨hM.2.2.1, hM.2.2.2.1, hM.2.2.2.2.1⟩ ⟨(by show d2 + 1 ≤ _; omega), (by show 8 + (_ + 11) + 40 * d2 ≤ _; omega)⟩, hy1, C.hts _ hin⟩ ⟨zPc_blind, fun U hU hW => ⟨rfl, by rw [hU]; exact V.1, C.env.moved (by rw [hU]; exact V.2.1) hW⟩⟩ rfl rfl V.2.2.1.1 rfl (by show 2 * 0 + _ ≤ 8; rw [zcat_sum]; omega) dd ⟨(by have := V.2.2.2.1; omega), (by have := V.2.2.2.2; omega)⟩)) V.2.1 (fun v g1 n1 H1 locs1 hp hR hS => by
    have h9 := kk v g1 n1 hp p l e R s m args below meth c D fz N0 C H1 locs1 (cells + k2) (slots + ks2) lr ⟨hR, hS, V.2.2.1, by have := V.2.2.2.1; omega, by have := V.2.2.2.2; omega⟩
    rw [List.map_append] at h9
    rw [show (v.toList.map (zv_tr (zr fz N0))) = (v.map (zv_tr (zr fz N0))).toList from by cases v <;> rfl] at h9
    exact h9) (fun E a g1 n1 ce H1 locs1 hp hR hS h1 h2 h3 h4 => absurd hp (hnx _ _ _ _))
theorem pw_callV4 {a1 a2 a3 a4 : Value} (hM : zM Y2 4) (hh : Y2.2.2.2.2.2 = []) (hG : GoodIn lw_all (wsV Y.2.1 idx C9 Y2.1 (ws_ Y2.1 Y2.2.2.1 Y2.2.2.2.1 Y2.2.2.2.2.1))) (hC : Y2.2.1 = C9) (hs : zsh g b = some (.inl ci)) (hcf : zCF C9 T9 N9 ci ty0) (hc : PW Y2 d2 P2 k2 ks2 0 ls0 [] g n) (hd : d2 + 1 ≤ d) (hbc : bc1 + k2 ≤ bc) (hbs : bs1 + ks2 ≤ bs) (hls : lv_args 0 (.ref b :: [a1, a2, a3, a4]) = ls0) (hm : (lg_sl (.ref b :: [a1, a2, a3, a4])).length ≤ Y2.2.2.2.1) (hst : (rest.map fun v => v.category).sum ≤ 8) (dd : decode Y.2.2.1 pc = .ok (.invokevirtual idx, 3)) (hnx : ∀ E a g1 n1, ¬ P2 (.inr (E, a)) g1 n1) (kk : ∀ v g1 n1, P2 (.inl v) g1 n1 → PW Y d P bc1 bs1 (pc + 3) ls (v.toList ++ rest) g1 n1)  : PW Y d P bc bs pc ls (a4 :: a3 :: a2 :: a1 :: .ref b :: rest) g n := by
  intro p l e R s m args below meth c D fz N0 C H locs cells slots lr V
  have hf : d ≤ R.frames := C.2.2.2.2.2.2.2.2.2.2.1
  have hlo : 40 * d ≤ R.locals := C.2.2.2.2.2.2.2.2.2.2.2.1
  have h21 := hM.2.2.2.2.2
  refine zcall (P2 := P2) (mc := k2) (ms := ks2) (rest := rest.map (zv_tr (zr fz N0))) (zrun_of (va_runV (As := [zv_tr (zr fz N0) a1, zv_tr (zr fz N0) a2, zv_tr (zr fz N0) a3, zv_tr (zr fz N0) a4]) ⟨C.1, C.2.1, C.2.2.2.1, C.own, C.hts⟩ (zmet0 (pw_met l C.2.2.2.2.2.2.2.2.2.1 D fz N0 hM.1 hM.2.1 hh hm hls hc) hnx) (cwV 4 C.hts hG rfl rfl rfl ⟨hM.2.1.trans hC, hM.2.2.1, hM.2.2.2.1, hM.2.2.2.2.1⟩ ⟨(by show d2 + 1 ≤ _; omega), (by show 8 + (_ + 11) + 40 * d2 ≤ _; omega)⟩) ⟨zPc_blind, zrecv C V.1 hs hcf, fun U hU hW => ⟨rfl, by rw [hU]; exact V.1, C.env.moved (by rw [hU]; exact V.2.1) hW⟩⟩ rfl rfl V.2.2.1.1 rfl (by show 2 * 0 + _ ≤ 8; rw [zcat_sum]; omega) dd ⟨(by have := V.2.2.2.1; omega), (by have := V.2.2.2.2; omega)⟩)) V.2.1 (fun v g1 n1 H1 locs1 hp hR hS => by
    have h9 := kk v g1 n1 hp p l e R s m args below meth c D fz N0 C H1 locs1 (cells + k2) (slots + ks2) lr ⟨hR, hS, V.2.2.1, by have := V.2.2.2.1; omega, by have := V.2.2.2.2; omega⟩
    rw [List.map_append] at h9
    rw [show (v.toList.map (zv_tr (zr fz N0))) = (v.map (zv_tr (zr fz N0))).toList from by cases v <;> rfl] at h9
    exact h9) (fun E a g1 n1 ce H1 locs1 hp hR hS h1 h2 h3 h4 => absurd hp (hnx _ _ _ _))
theorem pw_callVx4 {a1 a2 a3 a4 : Value} (hM : zM Y2 4) (hh : Y2.2.2.2.2.2 = []) (hG : GoodIn lw_all (wsV Y.2.1 idx C9 Y2.1 (ws_ Y2.1 Y2.2.2.1 Y2.2.2.2.1 Y2.2.2.2.2.1))) (hC : Y2.2.1 = C9) (hs : zsh g b = some (.inl ci)) (hcf : zCF C9 T9 N9 ci ty0) (hc : PW Y2 d2 P2 k2 ks2 0 ls0 [] g n) (hd : d2 + 1 ≤ d) (hbc : bc1 + k2 ≤ bc) (hbs : bs1 + ks2 ≤ bs) (hls : lv_args 0 (.ref b :: [a1, a2, a3, a4]) = ls0) (hm : (lg_sl (.ref b :: [a1, a2, a3, a4])).length ≤ Y2.2.2.2.1) (hst : (rest.map fun v => v.category).sum ≤ 8) (dd : decode Y.2.2.1 pc = .ok (.invokevirtual idx, 3))  (kk : ∀ v g1 n1, P2 (.inl v) g1 n1 → PW Y d P bc1 bs1 (pc + 3) ls (v.toList ++ rest) g1 n1) (kx : ∀ E a g1 n1, P2 (.inr (E, a)) g1 n1 → PX Y d P bc1 bs1 pc ls E a g1 n1) : PW Y d P bc bs pc ls (a4 :: a3 :: a2 :: a1 :: .ref b :: rest) g n := by
  intro p l e R s m args below meth c D fz N0 C H locs cells slots lr V
  have hf : d ≤ R.frames := C.2.2.2.2.2.2.2.2.2.2.1
  have hlo : 40 * d ≤ R.locals := C.2.2.2.2.2.2.2.2.2.2.2.1
  have h21 := hM.2.2.2.2.2
  refine zcall (P2 := P2) (mc := k2) (ms := ks2) (rest := rest.map (zv_tr (zr fz N0))) (vx_runV (As := [zv_tr (zr fz N0) a1, zv_tr (zr fz N0) a2, zv_tr (zr fz N0) a3, zv_tr (zr fz N0) a4]) ⟨C.1, C.2.1, C.2.2.2.1, C.own, C.hts⟩ (pw_met l C.2.2.2.2.2.2.2.2.2.1 D fz N0 hM.1 hM.2.1 hh hm hls hc) (cwV 4 C.hts hG rfl rfl rfl ⟨hM.2.1.trans hC, hM.2.2.1, hM.2.2.2.1, hM.2.2.2.2.1⟩ ⟨(by show d2 + 1 ≤ _; omega), (by show 8 + (_ + 11) + 40 * d2 ≤ _; omega)⟩) ⟨zPc_blind, zrecv C V.1 hs hcf, fun U hU hW => ⟨rfl, by rw [hU]; exact V.1, C.env.moved (by rw [hU]; exact V.2.1) hW⟩⟩ rfl rfl V.2.2.1.1 rfl (by show 2 * 0 + _ ≤ 8; rw [zcat_sum]; omega) dd ⟨(by have := V.2.2.2.1; omega), (by have := V.2.2.2.2; omega)⟩) V.2.1 (fun v g1 n1 H1 locs1 hp hR hS => by
    have h9 := kk v g1 n1 hp p l e R s m args below meth c D fz N0 C H1 locs1 (cells + k2) (slots + ks2) lr ⟨hR, hS, V.2.2.1, by have := V.2.2.2.1; omega, by have := V.2.2.2.2; omega⟩
    rw [List.map_append] at h9
    rw [show (v.toList.map (zv_tr (zr fz N0))) = (v.map (zv_tr (zr fz N0))).toList from by cases v <;> rfl] at h9
    exact h9) (fun E a g1 n1 ce H1 locs1 hp hR hS h1 h2 h3 h4 => kx E a g1 n1 hp p l e R s m args below meth c D fz N0 C H1 locs1 _ _ lr ⟨hR, hS, V.2.2.1, by have := V.2.2.2.1; omega, by have := V.2.2.2.2; omega⟩ ce _ h1 h2 h3 h4)
theorem pw_callU4 {a1 a2 a3 a4 : Value} (hM : zM Y2 4) (hh : Y2.2.2.2.2.2 = []) {x : MethodName} {owner : String} (hG : GoodIn lw_all (va_wsU Y.2.1 idx C9 owner x Y2.1 (ws_ Y2.1 Y2.2.2.1 Y2.2.2.2.1 Y2.2.2.2.2.1))) (hx : Y2.1 = ⟨owner, x.name, x.desc⟩) (ho : owner ≠ "java/lang/invoke/MethodHandle" ∧ owner ≠ "java/lang/invoke/VarHandle" ∧ (parseMethodDescriptor x.desc).map (fun d => d.parameters.length) = some 4) (hs : zsh g b = some (.inl ci)) (hcf : zCF C9 T9 N9 ci ty0) (hc : PW Y2 d2 P2 k2 ks2 0 ls0 [] g n) (hd : d2 + 1 ≤ d) (hbc : bc1 + k2 ≤ bc) (hbs : bs1 + ks2 ≤ bs) (hls : lv_args 0 (.ref b :: [a1, a2, a3, a4]) = ls0) (hm : (lg_sl (.ref b :: [a1, a2, a3, a4])).length ≤ Y2.2.2.2.1) (hst : (rest.map fun v => v.category).sum ≤ 8) (dd : decode Y.2.2.1 pc = .ok (.invokevirtual idx, 3)) (hnx : ∀ E a g1 n1, ¬ P2 (.inr (E, a)) g1 n1) (kk : ∀ v g1 n1, P2 (.inl v) g1 n1 → PW Y d P bc1 bs1 (pc + 3) ls (v.toList ++ rest) g1 n1)  : PW Y d P bc bs pc ls (a4 :: a3 :: a2 :: a1 :: .ref b :: rest) g n := by
  intro p l e R s m args below meth c D fz N0 C H locs cells slots lr V
  have hf : d ≤ R.frames := C.2.2.2.2.2.2.2.2.2.2.1
  have hlo : 40 * d ≤ R.locals := C.2.2.2.2.2.2.2.2.2.2.2.1
  have h21 := hM.2.2.2.2.2
  refine zcall (P2 := P2) (mc := k2) (ms := ks2) (rest := rest.map (zv_tr (zr fz N0))) (zrun_of (va_runU (As := [zv_tr (zr fz N0) a1, zv_tr (zr fz N0) a2, zv_tr (zr fz N0) a3, zv_tr (zr fz N0) a4]) ⟨C.1, C.2.1, C.2.2.2.1, C.own, C.hts⟩ (zmet0 (pw_met l C.2.2.2.2.2.2.2.2.2.1 D fz N0 hM.1 hM.2.1 hh hm hls hc) hnx) (va_cwU 4 C.hts hG rfl rfl rfl hx ho ⟨(by show d2 + 1 ≤ _; omega), (by show 8 + (_ + 11) + 40 * d2 ≤ _; omega)⟩) ⟨zPc_blind, zrecv C V.1 hs hcf, fun U hU hW => ⟨rfl, by rw [hU]; exact V.1, C.env.moved (by rw [hU]; exact V.2.1) hW⟩⟩ rfl rfl V.2.2.1.1 rfl (by show 2 * 0 + _ ≤ 8; rw [zcat_sum]; omega) dd ⟨(by have := V.2.2.2.1; omega), (by have := V.2.2.2.2; omega)⟩)) V.2.1 (fun v g1 n1 H1 locs1 hp hR hS => by
    have h9 := kk v g1 n1 hp p l e R s m args below meth c D fz N0 C H1 locs1 (cells + k2) (slots + ks2) lr ⟨hR, hS, V.2.2.1, by have := V.2.2.2.1; omega, by have := V.2.2.2.2; omega⟩
    rw [List.map_append] at h9
    rw [show (v.toList.map (zv_tr (zr fz N0))) = (v.map (zv_tr (zr fz N0))).toList from by cases v <;> rfl] at h9
    exact h9) (fun E a g1 n1 ce H1 locs1 hp hR hS h1 h2 h3 h4 => absurd hp (hnx _ _ _ _))
theorem pw_callVN4 {a1 a2 a3 a4 : Value} (hM : zM Y2 4) (hh : Y2.2.2.2.2.2 = []) {host : String} (hl : Cond.methodLinkNest Y.2.1 idx Y2.1 host ∈ lw_tbl) (hG : GoodIn lw_all (ws_ Y2.1 Y2.2.2.1 Y2.2.2.2.1 Y2.2.2.2.2.1)) (hini : Cond.initialized Y2.1.cls ∈ lw_all) (hin : Cond.instanceMethod Y2.1 ∈ lw_all) (hse : Cond.selects C9 Y2.1 Y2.1 ∈ lw_all) (hs : zsh g b = some (.inl ci)) (hcf : zCF C9 T9 N9 ci ty0) (hc : PW Y2 d2 P2 k2 ks2 0 ls0 [] g n) (hd : d2 + 1 ≤ d) (hbc : bc1 + k2 ≤ bc) (hbs : bs1 + ks2 ≤ bs) (hls : lv_args 0 (.ref b :: [a1, a2, a3, a4]) = ls0) (hm : (lg_sl (.ref b :: [a1, a2, a3, a4])).length ≤ Y2.2.2.2.1) (hst : (rest.map fun v => v.category).sum ≤ 8) (dd : decode Y.2.2.1 pc = .ok (.invokevirtual idx, 3)) (hnx : ∀ E a g1 n1, ¬ P2 (.inr (E, a)) g1 n1) (kk : ∀ v g1 n1, P2 (.inl v) g1 n1 → PW Y d P bc1 bs1 (pc + 3) ls (v.toList ++ rest) g1 n1)  : PW Y d P bc bs pc ls (a4 :: a3 :: a2 :: a1 :: .ref b :: rest) g n := by
  intro p l e R s m args below meth c D fz N0 C H locs cells slots lr V
  have hf : d ≤ R.frames := C.2.2.2.2.2.2.2.2.2.2.1
  have hlo : 40 * d ≤ R.locals := C.2.2.2.2.2.2.2.2.2.2.2.1
  have h21 := hM.2.2.2.2.2
  refine zcall (P2 := P2) (mc := k2) (ms := ks2) (rest := rest.map (zv_tr (zr fz N0))) (zrun_of (va_runVN (As := [zv_tr (zr fz N0) a1, zv_tr (zr fz N0) a2, zv_tr (zr fz N0) a3, zv_tr (zr fz N0) a4]) ⟨C.1, C.2.1, C.2.2.2.1, C.own, C.hts⟩ (zmet0 (pw_met l C.2.2.2.2.2.2.2.2.2.1 D fz N0 hM.1 hM.2.1 hh hm hls hc) hnx) ⟨va_cnB 4 C.hts hG rfl rfl rfl (C.env.2.2.2.2.1 _ hl rfl) (C.hts _ hini) ⟨hM.2.2.1, hM.2.2.2.1, hM.2.2.2.2.1⟩ ⟨(by show d2 + 1 ≤ _; omega), (by show 8 + (_ + 11) + 40 * d2 ≤ _; omega)⟩, C.hts _ hin, C.hts _ hse⟩ ⟨zPc_blind, zrecv C V.1 hs hcf, fun U hU hW => ⟨rfl, by rw [hU]; exact V.1, C.env.moved (by rw [hU]; exact V.2.1) hW⟩⟩ rfl rfl V.2.2.1.1 rfl (by show 2 * 0 + _ ≤ 8; rw [zcat_sum]; omega) dd ⟨(by have := V.2.2.2.1; omega), (by have := V.2.2.2.2; omega)⟩)) V.2.1 (fun v g1 n1 H1 locs1 hp hR hS => by
    have h9 := kk v g1 n1 hp p l e R s m args below meth c D fz N0 C H1 locs1 (cells + k2) (slots + ks2) lr ⟨hR, hS, V.2.2.1, by have := V.2.2.2.1; omega, by have := V.2.2.2.2; omega⟩
    rw [List.map_append] at h9
    rw [show (v.toList.map (zv_tr (zr fz N0))) = (v.map (zv_tr (zr fz N0))).toList from by cases v <;> rfl] at h9
    exact h9) (fun E a g1 n1 ce H1 locs1 hp hR hS h1 h2 h3 h4 => absurd hp (hnx _ _ _ _))
theorem pw_callS4 {a1 a2 a3 a4 : Value} (hM : zM Y2 4) (hh : Y2.2.2.2.2.2 = []) (hG : GoodIn lw_all (va_wsS Y.2.1 idx Y2.1 (ws_ Y2.1 Y2.2.2.1 Y2.2.2.2.1 Y2.2.2.2.2.1))) (hc : PW Y2 d2 P2 k2 ks2 0 ls0 [] g n) (hd : d2 + 1 ≤ d) (hbc : bc1 + k2 ≤ bc) (hbs : bs1 + ks2 ≤ bs) (hls : lv_args 0 [a1, a2, a3, a4] = ls0) (hm : (lg_sl [a1, a2, a3, a4]).length ≤ Y2.2.2.2.1) (hst : (rest.map fun v => v.category).sum ≤ 8) (dd : decode Y.2.2.1 pc = .ok (.invokestatic idx, 3)) (hnx : ∀ E a g1 n1, ¬ P2 (.inr (E, a)) g1 n1) (kk : ∀ v g1 n1, P2 (.inl v) g1 n1 → PW Y d P bc1 bs1 (pc + 3) ls (v.toList ++ rest) g1 n1)  : PW Y d P bc bs pc ls (a4 :: a3 :: a2 :: a1 :: rest) g n := by
  intro p l e R s m args below meth c D fz N0 C H locs cells slots lr V
  have hf : d ≤ R.frames := C.2.2.2.2.2.2.2.2.2.2.1
  have hlo : 40 * d ≤ R.locals := C.2.2.2.2.2.2.2.2.2.2.2.1
  have h21 := hM.2.2.2.2.2
  refine zcall (P2 := P2) (mc := k2) (ms := ks2) (rest := rest.map (zv_tr (zr fz N0))) (zrun_of (va_runS (As := [zv_tr (zr fz N0) a1, zv_tr (zr fz N0) a2, zv_tr (zr fz N0) a3, zv_tr (zr fz N0) a4]) ⟨C.1, C.2.1, C.2.2.2.1, C.own, C.hts⟩ (zmet0 (pw_met l C.2.2.2.2.2.2.2.2.2.1 D fz N0 hM.1 hM.2.1 hh hm hls hc) hnx) (va_cwS 4 C.hts hG rfl rfl rfl ⟨hM.2.2.1, hM.2.2.2.1, hM.2.2.2.2.1⟩ ⟨(by show d2 + 1 ≤ _; omega), (by show 8 + (_ + 11) + 40 * d2 ≤ _; omega)⟩) ⟨zPc_blind, fun U hU hW => ⟨rfl, by rw [hU]; exact V.1, C.env.moved (by rw [hU]; exact V.2.1) hW⟩⟩ rfl rfl V.2.2.1.1 rfl (by show 2 * 0 + _ ≤ 8; rw [zcat_sum]; omega) dd ⟨(by have := V.2.2.2.1; omega), (by have := V.2.2.2.2; omega)⟩)) V.2.1 (fun v g1 n1 H1 locs1 hp hR hS => by
    have h9 := kk v g1 n1 hp p l e R s m args below meth c D fz N0 C H1 locs1 (cells + k2) (slots + ks2) lr ⟨hR, hS, V.2.2.1, by have := V.2.2.2.1; omega, by have := V.2.2.2.2; omega⟩
    rw [List.map_append] at h9
    rw [show (v.toList.map (zv_tr (zr fz N0))) = (v.map (zv_tr (zr fz N0))).toList from by cases v <;> rfl] at h9
    exact h9) (fun E a g1 n1 ce H1 locs1 hp hR hS h1 h2 h3 h4 => absurd hp (hnx _ _ _ _))
theorem pw_callI4 {a1 a2 a3 a4 : Value} (hM : zM Y2 4) (hh : Y2.2.2.2.2.2 = []) (hret : Y2.2.2.2.2.1 = none) (hy1 : Y2.1.name = "<init>") (hG : GoodIn lw_all (ws_ Y2.1 Y2.2.2.1 Y2.2.2.2.1 none)) (hini : Cond.initialized Y2.1.cls ∈ lw_all) (hl : Cond.methodLink Y.2.1 idx Y2.1 ∈ lw_all) (hin : Cond.instanceMethod Y2.1 ∈ lw_all) (hc : PW Y2 d2 P2 k2 ks2 0 ls0 [] g n) (hd : d2 + 1 ≤ d) (hbc : bc1 + k2 ≤ bc) (hbs : bs1 + ks2 ≤ bs) (hls : lv_args 0 (.ref b :: [a1, a2, a3, a4]) = ls0) (hm : (lg_sl (.ref b :: [a1, a2, a3, a4])).length ≤ Y2.2.2.2.1) (hst : (rest.map fun v => v.category).sum ≤ 8) (dd : decode Y.2.2.1 pc = .ok (.invokespecial idx, 3)) (hnx : ∀ E a g1 n1, ¬ P2 (.inr (E, a)) g1 n1) (kk : ∀ v g1 n1, P2 (.inl v) g1 n1 → PW Y d P bc1 bs1 (pc + 3) ls (v.toList ++ rest) g1 n1) : PW Y d P bc bs pc ls (a4 :: a3 :: a2 :: a1 :: .ref b :: rest) g n := by
  intro p l e R s m args below meth c D fz N0 C H locs cells slots lr V
  have hf : d ≤ R.frames := C.2.2.2.2.2.2.2.2.2.2.1
  have hlo : 40 * d ≤ R.locals := C.2.2.2.2.2.2.2.2.2.2.2.1
  have h21 := hM.2.2.2.2.2
  have hmet := zmet0 (pw_met l C.2.2.2.2.2.2.2.2.2.1 D fz N0 hM.1 hM.2.1 hh hm hls hc) hnx
  rw [hret] at hmet
  refine zcall (P2 := P2) (mc := k2) (ms := ks2) (rest := rest.map (zv_tr (zr fz N0))) (zrun_of (va_runI (As := [zv_tr (zr fz N0) a1, zv_tr (zr fz N0) a2, zv_tr (zr fz N0) a3, zv_tr (zr fz N0) a4]) ⟨C.1, C.2.1, C.2.2.2.1, C.own, C.hts⟩ hmet (cwI 4 C.hts hG rfl rfl rfl (C.hts _ hini) (C.hts _ hl) (C.hts _ hin) hy1 ⟨hM.2.2.1, hM.2.2.2.1, hM.2.2.2.2.1⟩ ⟨(by show d2 + 1 ≤ _; omega), (by show 8 + (_ + 11) + 40 * d2 ≤ _; omega)⟩) ⟨zPc_blind, fun U hU hW => ⟨rfl, by rw [hU]; exact V.1, C.env.moved (by rw [hU]; exact V.2.1) hW⟩⟩ rfl rfl V.2.2.1.1 rfl (by show 2 * 0 + _ ≤ 8; rw [zcat_sum]; omega) dd ⟨(by have := V.2.2.2.1; omega), (by have := V.2.2.2.2; omega)⟩)) V.2.1 (fun v g1 n1 H1 locs1 hp hR hS => by
    have h9 := kk v g1 n1 hp p l e R s m args below meth c D fz N0 C H1 locs1 (cells + k2) (slots + ks2) lr ⟨hR, hS, V.2.2.1, by have := V.2.2.2.1; omega, by have := V.2.2.2.2; omega⟩
    rw [List.map_append] at h9
    rw [show (v.toList.map (zv_tr (zr fz N0))) = (v.map (zv_tr (zr fz N0))).toList from by cases v <;> rfl] at h9
    exact h9) (fun E a g1 n1 ce H1 locs1 hp hR hS h1 h2 h3 h4 => absurd hp (hnx _ _ _ _))
theorem pw_callIN4 {a1 a2 a3 a4 : Value} (hM : zM Y2 4) (hh : Y2.2.2.2.2.2 = []) (hret : Y2.2.2.2.2.1 = none) (hy1 : Y2.1.name = "<init>") {host : String} (hl : Cond.methodLinkNest Y.2.1 idx Y2.1 host ∈ lw_tbl) (hG : GoodIn lw_all (ws_ Y2.1 Y2.2.2.1 Y2.2.2.2.1 none)) (hini : Cond.initialized Y2.1.cls ∈ lw_all) (hin : Cond.instanceMethod Y2.1 ∈ lw_all) (hc : PW Y2 d2 P2 k2 ks2 0 ls0 [] g n) (hd : d2 + 1 ≤ d) (hbc : bc1 + k2 ≤ bc) (hbs : bs1 + ks2 ≤ bs) (hls : lv_args 0 (.ref b :: [a1, a2, a3, a4]) = ls0) (hm : (lg_sl (.ref b :: [a1, a2, a3, a4])).length ≤ Y2.2.2.2.1) (hst : (rest.map fun v => v.category).sum ≤ 8) (dd : decode Y.2.2.1 pc = .ok (.invokespecial idx, 3)) (hnx : ∀ E a g1 n1, ¬ P2 (.inr (E, a)) g1 n1) (kk : ∀ v g1 n1, P2 (.inl v) g1 n1 → PW Y d P bc1 bs1 (pc + 3) ls (v.toList ++ rest) g1 n1) : PW Y d P bc bs pc ls (a4 :: a3 :: a2 :: a1 :: .ref b :: rest) g n := by
  intro p l e R s m args below meth c D fz N0 C H locs cells slots lr V
  have hf : d ≤ R.frames := C.2.2.2.2.2.2.2.2.2.2.1
  have hlo : 40 * d ≤ R.locals := C.2.2.2.2.2.2.2.2.2.2.2.1
  have h21 := hM.2.2.2.2.2
  have hmet := zmet0 (pw_met l C.2.2.2.2.2.2.2.2.2.1 D fz N0 hM.1 hM.2.1 hh hm hls hc) hnx
  rw [hret] at hmet
  refine zcall (P2 := P2) (mc := k2) (ms := ks2) (rest := rest.map (zv_tr (zr fz N0))) (zrun_of (va_runIN (As := [zv_tr (zr fz N0) a1, zv_tr (zr fz N0) a2, zv_tr (zr fz N0) a3, zv_tr (zr fz N0) a4]) ⟨C.1, C.2.1, C.2.2.2.1, C.own, C.hts⟩ hmet ⟨va_cnB 4 C.hts hG rfl rfl rfl (C.env.2.2.2.2.1 _ hl rfl) (C.hts _ hini) ⟨hM.2.2.1, hM.2.2.2.1, hM.2.2.2.2.1⟩ ⟨(by show d2 + 1 ≤ _; omega), (by show 8 + (_ + 11) + 40 * d2 ≤ _; omega)⟩, hy1, C.hts _ hin⟩ ⟨zPc_blind, fun U hU hW => ⟨rfl, by rw [hU]; exact V.1, C.env.moved (by rw [hU]; exact V.2.1) hW⟩⟩ rfl rfl V.2.2.1.1 rfl (by show 2 * 0 + _ ≤ 8; rw [zcat_sum]; omega) dd ⟨(by have := V.2.2.2.1; omega), (by have := V.2.2.2.2; omega)⟩)) V.2.1 (fun v g1 n1 H1 locs1 hp hR hS => by
    have h9 := kk v g1 n1 hp p l e R s m args below meth c D fz N0 C H1 locs1 (cells + k2) (slots + ks2) lr ⟨hR, hS, V.2.2.1, by have := V.2.2.2.1; omega, by have := V.2.2.2.2; omega⟩
    rw [List.map_append] at h9
    rw [show (v.toList.map (zv_tr (zr fz N0))) = (v.map (zv_tr (zr fz N0))).toList from by cases v <;> rfl] at h9
    exact h9) (fun E a g1 n1 ce H1 locs1 hp hR hS h1 h2 h3 h4 => absurd hp (hnx _ _ _ _))
theorem pw_callV5 {a1 a2 a3 a4 a5 : Value} (hM : zM Y2 5) (hh : Y2.2.2.2.2.2 = []) (hG : GoodIn lw_all (wsV Y.2.1 idx C9 Y2.1 (ws_ Y2.1 Y2.2.2.1 Y2.2.2.2.1 Y2.2.2.2.2.1))) (hC : Y2.2.1 = C9) (hs : zsh g b = some (.inl ci)) (hcf : zCF C9 T9 N9 ci ty0) (hc : PW Y2 d2 P2 k2 ks2 0 ls0 [] g n) (hd : d2 + 1 ≤ d) (hbc : bc1 + k2 ≤ bc) (hbs : bs1 + ks2 ≤ bs) (hls : lv_args 0 (.ref b :: [a1, a2, a3, a4, a5]) = ls0) (hm : (lg_sl (.ref b :: [a1, a2, a3, a4, a5])).length ≤ Y2.2.2.2.1) (hst : (rest.map fun v => v.category).sum ≤ 8) (dd : decode Y.2.2.1 pc = .ok (.invokevirtual idx, 3)) (hnx : ∀ E a g1 n1, ¬ P2 (.inr (E, a)) g1 n1) (kk : ∀ v g1 n1, P2 (.inl v) g1 n1 → PW Y d P bc1 bs1 (pc + 3) ls (v.toList ++ rest) g1 n1)  : PW Y d P bc bs pc ls (a5 :: a4 :: a3 :: a2 :: a1 :: .ref b :: rest) g n := by
  intro p l e R s m args below meth c D fz N0 C H locs cells slots lr V
  have hf : d ≤ R.frames := C.2.2.2.2.2.2.2.2.2.2.1
  have hlo : 40 * d ≤ R.locals := C.2.2.2.2.2.2.2.2.2.2.2.1
  have h21 := hM.2.2.2.2.2
  refine zcall (P2 := P2) (mc := k2) (ms := ks2) (rest := rest.map (zv_tr (zr fz N0))) (zrun_of (va_runV (As := [zv_tr (zr fz N0) a1, zv_tr (zr fz N0) a2, zv_tr (zr fz N0) a3, zv_tr (zr fz N0) a4, zv_tr (zr fz N0) a5]) ⟨C.1, C.2.1, C.2.2.2.1, C.own, C.hts⟩ (zmet0 (pw_met l C.2.2.2.2.2.2.2.2.2.1 D fz N0 hM.1 hM.2.1 hh hm hls hc) hnx) (cwV 5 C.hts hG rfl rfl rfl ⟨hM.2.1.trans hC, hM.2.2.1, hM.2.2.2.1, hM.2.2.2.2.1⟩ ⟨(by show d2 + 1 ≤ _; omega), (by show 8 + (_ + 11) + 40 * d2 ≤ _; omega)⟩) ⟨zPc_blind, zrecv C V.1 hs hcf, fun U hU hW => ⟨rfl, by rw [hU]; exact V.1, C.env.moved (by rw [hU]; exact V.2.1) hW⟩⟩ rfl rfl V.2.2.1.1 rfl (by show 2 * 0 + _ ≤ 8; rw [zcat_sum]; omega) dd ⟨(by have := V.2.2.2.1; omega), (by have := V.2.2.2.2; omega)⟩)) V.2.1 (fun v g1 n1 H1 locs1 hp hR hS => by
    have h9 := kk v g1 n1 hp p l e R s m args below meth c D fz N0 C H1 locs1 (cells + k2) (slots + ks2) lr ⟨hR, hS, V.2.2.1, by have := V.2.2.2.1; omega, by have := V.2.2.2.2; omega⟩
    rw [List.map_append] at h9
    rw [show (v.toList.map (zv_tr (zr fz N0))) = (v.map (zv_tr (zr fz N0))).toList from by cases v <;> rfl] at h9
    exact h9) (fun E a g1 n1 ce H1 locs1 hp hR hS h1 h2 h3 h4 => absurd hp (hnx _ _ _ _))
theorem pw_callVx5 {a1 a2 a3 a4 a5 : Value} (hM : zM Y2 5) (hh : Y2.2.2.2.2.2 = []) (hG : GoodIn lw_all (wsV Y.2.1 idx C9 Y2.1 (ws_ Y2.1 Y2.2.2.1 Y2.2.2.2.1 Y2.2.2.2.2.1))) (hC : Y2.2.1 = C9) (hs : zsh g b = some (.inl ci)) (hcf : zCF C9 T9 N9 ci ty0) (hc : PW Y2 d2 P2 k2 ks2 0 ls0 [] g n) (hd : d2 + 1 ≤ d) (hbc : bc1 + k2 ≤ bc) (hbs : bs1 + ks2 ≤ bs) (hls : lv_args 0 (.ref b :: [a1, a2, a3, a4, a5]) = ls0) (hm : (lg_sl (.ref b :: [a1, a2, a3, a4, a5])).length ≤ Y2.2.2.2.1) (hst : (rest.map fun v => v.category).sum ≤ 8) (dd : decode Y.2.2.1 pc = .ok (.invokevirtual idx, 3))  (kk : ∀ v g1 n1, P2 (.inl v) g1 n1 → PW Y d P bc1 bs1 (pc + 3) ls (v.toList ++ rest) g1 n1) (kx : ∀ E a g1 n1, P2 (.inr (E, a)) g1 n1 → PX Y d P bc1 bs1 pc ls E a g1 n1) : PW Y d P bc bs pc ls (a5 :: a4 :: a3 :: a2 :: a1 :: .ref b :: rest) g n := by
  intro p l e R s m args below meth c D fz N0 C H locs cells slots lr V
  have hf : d ≤ R.frames := C.2.2.2.2.2.2.2.2.2.2.1
  have hlo : 40 * d ≤ R.locals := C.2.2.2.2.2.2.2.2.2.2.2.1
  have h21 := hM.2.2.2.2.2
  refine zcall (P2 := P2) (mc := k2) (ms := ks2) (rest := rest.map (zv_tr (zr fz N0))) (vx_runV (As := [zv_tr (zr fz N0) a1, zv_tr (zr fz N0) a2, zv_tr (zr fz N0) a3, zv_tr (zr fz N0) a4, zv_tr (zr fz N0) a5]) ⟨C.1, C.2.1, C.2.2.2.1, C.own, C.hts⟩ (pw_met l C.2.2.2.2.2.2.2.2.2.1 D fz N0 hM.1 hM.2.1 hh hm hls hc) (cwV 5 C.hts hG rfl rfl rfl ⟨hM.2.1.trans hC, hM.2.2.1, hM.2.2.2.1, hM.2.2.2.2.1⟩ ⟨(by show d2 + 1 ≤ _; omega), (by show 8 + (_ + 11) + 40 * d2 ≤ _; omega)⟩) ⟨zPc_blind, zrecv C V.1 hs hcf, fun U hU hW => ⟨rfl, by rw [hU]; exact V.1, C.env.moved (by rw [hU]; exact V.2.1) hW⟩⟩ rfl rfl V.2.2.1.1 rfl (by show 2 * 0 + _ ≤ 8; rw [zcat_sum]; omega) dd ⟨(by have := V.2.2.2.1; omega), (by have := V.2.2.2.2; omega)⟩) V.2.1 (fun v g1 n1 H1 locs1 hp hR hS => by
    have h9 := kk v g1 n1 hp p l e R s m args below meth c D fz N0 C H1 locs1 (cells + k2) (slots + ks2) lr ⟨hR, hS, V.2.2.1, by have := V.2.2.2.1; omega, by have := V.2.2.2.2; omega⟩
    rw [List.map_append] at h9
    rw [show (v.toList.map (zv_tr (zr fz N0))) = (v.map (zv_tr (zr fz N0))).toList from by cases v <;> rfl] at h9
    exact h9) (fun E a g1 n1 ce H1 locs1 hp hR hS h1 h2 h3 h4 => kx E a g1 n1 hp p l e R s m args below meth c D fz N0 C H1 locs1 _ _ lr ⟨hR, hS, V.2.2.1, by have := V.2.2.2.1; omega, by have := V.2.2.2.2; omega⟩ ce _ h1 h2 h3 h4)
theorem pw_callU5 {a1 a2 a3 a4 a5 : Value} (hM : zM Y2 5) (hh : Y2.2.2.2.2.2 = []) {x : MethodName} {owner : String} (hG : GoodIn lw_all (va_wsU Y.2.1 idx C9 owner x Y2.1 (ws_ Y2.1 Y2.2.2.1 Y2.2.2.2.1 Y2.2.2.2.2.1))) (hx : Y2.1 = ⟨owner, x.name, x.desc⟩) (ho : owner ≠ "java/lang/invoke/MethodHandle" ∧ owner ≠ "java/lang/invoke/VarHandle" ∧ (parseMethodDescriptor x.desc).map (fun d => d.parameters.length) = some 5) (hs : zsh g b = some (.inl ci)) (hcf : zCF C9 T9 N9 ci ty0) (hc : PW Y2 d2 P2 k2 ks2 0 ls0 [] g n) (hd : d2 + 1 ≤ d) (hbc : bc1 + k2 ≤ bc) (hbs : bs1 + ks2 ≤ bs) (hls : lv_args 0 (.ref b :: [a1, a2, a3, a4, a5]) = ls0) (hm : (lg_sl (.ref b :: [a1, a2, a3, a4, a5])).length ≤ Y2.2.2.2.1) (hst : (rest.map fun v => v.category).sum ≤ 8) (dd : decode Y.2.2.1 pc = .ok (.invokevirtual idx, 3)) (hnx : ∀ E a g1 n1, ¬ P2 (.inr (E, a)) g1 n1) (kk : ∀ v g1 n1, P2 (.inl v) g1 n1 → PW Y d P bc1 bs1 (pc + 3) ls (v.toList ++ rest) g1 n1)  : PW Y d P bc bs pc ls (a5 :: a4 :: a3 :: a2 :: a1 :: .ref b :: rest) g n := by
  intro p l e R s m args below meth c D fz N0 C H locs cells slots lr V
  have hf : d ≤ R.frames := C.2.2.2.2.2.2.2.2.2.2.1
  have hlo : 40 * d ≤ R.locals := C.2.2.2.2.2.2.2.2.2.2.2.1
  have h21 := hM.2.2.2.2.2
  refine zcall (P2 := P2) (mc := k2) (ms := ks2) (rest := rest.map (zv_tr (zr fz N0))) (zrun_of (va_runU (As := [zv_tr (zr fz N0) a1, zv_tr (zr fz N0) a2, zv_tr (zr fz N0) a3, zv_tr (zr fz N0) a4, zv_tr (zr fz N0) a5]) ⟨C.1, C.2.1, C.2.2.2.1, C.own, C.hts⟩ (zmet0 (pw_met l C.2.2.2.2.2.2.2.2.2.1 D fz N0 hM.1 hM.2.1 hh hm hls hc) hnx) (va_cwU 5 C.hts hG rfl rfl rfl hx ho ⟨(by show d2 + 1 ≤ _; omega), (by show 8 + (_ + 11) + 40 * d2 ≤ _; omega)⟩) ⟨zPc_blind, zrecv C V.1 hs hcf, fun U hU hW => ⟨rfl, by rw [hU]; exact V.1, C.env.moved (by rw [hU]; exact V.2.1) hW⟩⟩ rfl rfl V.2.2.1.1 rfl (by show 2 * 0 + _ ≤ 8; rw [zcat_sum]; omega) dd ⟨(by have := V.2.2.2.1; omega), (by have := V.2.2.2.2; omega)⟩)) V.2.1 (fun v g1 n1 H1 locs1 hp hR hS => by
    have h9 := kk v g1 n1 hp p l e R s m args below meth c D fz N0 C H1 locs1 (cells + k2) (slots + ks2) lr ⟨hR, hS, V.2.2.1, by have := V.2.2.2.1; omega, by have := V.2.2.2.2; omega⟩
    rw [List.map_append] at h9
    rw [show (v.toList.map (zv_tr (zr fz N0))) = (v.map (zv_tr (zr fz N0))).toList from by cases v <;> rfl] at h9
    exact h9) (fun E a g1 n1 ce H1 locs1 hp hR hS h1 h2 h3 h4 => absurd hp (hnx _ _ _ _))
theorem pw_callVN5 {a1 a2 a3 a4 a5 : Value} (hM : zM Y2 5) (hh : Y2.2.2.2.2.2 = []) {host : String} (hl : Cond.methodLinkNest Y.2.1 idx Y2.1 host ∈ lw_tbl) (hG : GoodIn lw_all (ws_ Y2.1 Y2.2.2.1 Y2.2.2.2.1 Y2.2.2.2.2.1)) (hini : Cond.initialized Y2.1.cls ∈ lw_all) (hin : Cond.instanceMethod Y2.1 ∈ lw_all) (hse : Cond.selects C9 Y2.1 Y2.1 ∈ lw_all) (hs : zsh g b = some (.inl ci)) (hcf : zCF C9 T9 N9 ci ty0) (hc : PW Y2 d2 P2 k2 ks2 0 ls0 [] g n) (hd : d2 + 1 ≤ d) (hbc : bc1 + k2 ≤ bc) (hbs : bs1 + ks2 ≤ bs) (hls : lv_args 0 (.ref b :: [a1, a2, a3, a4, a5]) = ls0) (hm : (lg_sl (.ref b :: [a1, a2, a3, a4, a5])).length ≤ Y2.2.2.2.1) (hst : (rest.map fun v => v.category).sum ≤ 8) (dd : decode Y.2.2.1 pc = .ok (.invokevirtual idx, 3)) (hnx : ∀ E a g1 n1, ¬ P2 (.inr (E, a)) g1 n1) (kk : ∀ v g1 n1, P2 (.inl v) g1 n1 → PW Y d P bc1 bs1 (pc + 3) ls (v.toList ++ rest) g1 n1)  : PW Y d P bc bs pc ls (a5 :: a4 :: a3 :: a2 :: a1 :: .ref b :: rest) g n := by
  intro p l e R s m args below meth c D fz N0 C H locs cells slots lr V
  have hf : d ≤ R.frames := C.2.2.2.2.2.2.2.2.2.2.1
  have hlo : 40 * d ≤ R.locals := C.2.2.2.2.2.2.2.2.2.2.2.1
  have h21 := hM.2.2.2.2.2
  refine zcall (P2 := P2) (mc := k2) (ms := ks2) (rest := rest.map (zv_tr (zr fz N0))) (zrun_of (va_runVN (As := [zv_tr (zr fz N0) a1, zv_tr (zr fz N0) a2, zv_tr (zr fz N0) a3, zv_tr (zr fz N0) a4, zv_tr (zr fz N0) a5]) ⟨C.1, C.2.1, C.2.2.2.1, C.own, C.hts⟩ (zmet0 (pw_met l C.2.2.2.2.2.2.2.2.2.1 D fz N0 hM.1 hM.2.1 hh hm hls hc) hnx) ⟨va_cnB 5 C.hts hG rfl rfl rfl (C.env.2.2.2.2.1 _ hl rfl) (C.hts _ hini) ⟨hM.2.2.1, hM.2.2.2.1, hM.2.2.2.2.1⟩ ⟨(by show d2 + 1 ≤ _; omega), (by show 8 + (_ + 11) + 40 * d2 ≤ _; omega)⟩, C.hts _ hin, C.hts _ hse⟩ ⟨zPc_blind, zrecv C V.1 hs hcf, fun U hU hW => ⟨rfl, by rw [hU]; exact V.1, C.env.moved (by rw [hU]; exact V.2.1) hW⟩⟩ rfl rfl V.2.2.1.1 rfl (by show 2 * 0 + _ ≤ 8; rw [zcat_sum]; omega) dd ⟨(by have := V.2.2.2.1; omega), (by have := V.2.2.2.2; omega)⟩)) V.2.1 (fun v g1 n1 H1 locs1 hp hR hS => by
    have h9 := kk v g1 n1 hp p l e R s m args below meth c D fz N0 C H1 locs1 (cells + k2) (slots + ks2) lr ⟨hR, hS, V.2.2.1, by have := V.2.2.2.1; omega, by have := V.2.2.2.2; omega⟩
    rw [List.map_append] at h9
    rw [show (v.toList.map (zv_tr (zr fz N0))) = (v.map (zv_tr (zr fz N0))).toList from by cases v <;> rfl] at h9
    exact h9) (fun E a g1 n1 ce H1 locs1 hp hR hS h1 h2 h3 h4 => absurd hp (hnx _ _ _ _))
theorem pw_callS5 {a1 a2 a3 a4 a5 : Value} (hM : zM Y2 5) (hh : Y2.2.2.2.2.2 = []) (hG : GoodIn lw_all (va_wsS Y.2.1 idx Y2.1 (ws_ Y2.1 Y2.2.2.1 Y2.2.2.2.1 Y2.2.2.2.2.1))) (hc : PW Y2 d2 P2 k2 ks2 0 ls0 [] g n) (hd : d2 + 1 ≤ d) (hbc : bc1 + k2 ≤ bc) (hbs : bs1 + ks2 ≤ bs) (hls : lv_args 0 [a1, a2, a3, a4, a5] = ls0) (hm : (lg_sl [a1, a2, a3, a4, a5]).length ≤ Y2.2.2.2.1) (hst : (rest.map fun v => v.category).sum ≤ 8) (dd : decode Y.2.2.1 pc = .ok (.invokestatic idx, 3)) (hnx : ∀ E a g1 n1, ¬ P2 (.inr (E, a)) g1 n1) (kk : ∀ v g1 n1, P2 (.inl v) g1 n1 → PW Y d P bc1 bs1 (pc + 3) ls (v.toList ++ rest) g1 n1)  : PW Y d P bc bs pc ls (a5 :: a4 :: a3 :: a2 :: a1 :: rest) g n := by
  intro p l e R s m args below meth c D fz N0 C H locs cells slots lr V
  have hf : d ≤ R.frames := C.2.2.2.2.2.2.2.2.2.2.1
  have hlo : 40 * d ≤ R.locals := C.2.2.2.2.2.2.2.2.2.2.2.1
  have h21 := hM.2.2.2.2.2
  refine zcall (P2 := P2) (mc := k2) (ms := ks2) (rest := rest.map (zv_tr (zr fz N0))) (zrun_of (va_runS (As := [zv_tr (zr fz N0) a1, zv_tr (zr fz N0) a2, zv_tr (zr fz N0) a3, zv_tr (zr fz N0) a4, zv_tr (zr fz N0) a5]) ⟨C.1, C.2.1, C.2.2.2.1, C.own, C.hts⟩ (zmet0 (pw_met l C.2.2.2.2.2.2.2.2.2.1 D fz N0 hM.1 hM.2.1 hh hm hls hc) hnx) (va_cwS 5 C.hts hG rfl rfl rfl ⟨hM.2.2.1, hM.2.2.2.1, hM.2.2.2.2.1⟩ ⟨(by show d2 + 1 ≤ _; omega), (by show 8 + (_ + 11) + 40 * d2 ≤ _; omega)⟩) ⟨zPc_blind, fun U hU hW => ⟨rfl, by rw [hU]; exact V.1, C.env.moved (by rw [hU]; exact V.2.1) hW⟩⟩ rfl rfl V.2.2.1.1 rfl (by show 2 * 0 + _ ≤ 8; rw [zcat_sum]; omega) dd ⟨(by have := V.2.2.2.1; omega), (by have := V.2.2.2.2; omega)⟩)) V.2.1 (fun v g1 n1 H1 locs1 hp hR hS => by
    have h9 := kk v g1 n1 hp p l e R s m args below meth c D fz N0 C H1 locs1 (cells + k2) (slots + ks2) lr ⟨hR, hS, V.2.2.1, by have := V.2.2.2.1; omega, by have := V.2.2.2.2; omega⟩
    rw [List.map_append] at h9
    rw [show (v.toList.map (zv_tr (zr fz N0))) = (v.map (zv_tr (zr fz N0))).toList from by cases v <;> rfl] at h9
    exact h9) (fun E a g1 n1 ce H1 locs1 hp hR hS h1 h2 h3 h4 => absurd hp (hnx _ _ _ _))
theorem pw_callI5 {a1 a2 a3 a4 a5 : Value} (hM : zM Y2 5) (hh : Y2.2.2.2.2.2 = []) (hret : Y2.2.2.2.2.1 = none) (hy1 : Y2.1.name = "<init>") (hG : GoodIn lw_all (ws_ Y2.1 Y2.2.2.1 Y2.2.2.2.1 none)) (hini : Cond.initialized Y2.1.cls ∈ lw_all) (hl : Cond.methodLink Y.2.1 idx Y2.1 ∈ lw_all) (hin : Cond.instanceMethod Y2.1 ∈ lw_all) (hc : PW Y2 d2 P2 k2 ks2 0 ls0 [] g n) (hd : d2 + 1 ≤ d) (hbc : bc1 + k2 ≤ bc) (hbs : bs1 + ks2 ≤ bs) (hls : lv_args 0 (.ref b :: [a1, a2, a3, a4, a5]) = ls0) (hm : (lg_sl (.ref b :: [a1, a2, a3, a4, a5])).length ≤ Y2.2.2.2.1) (hst : (rest.map fun v => v.category).sum ≤ 8) (dd : decode Y.2.2.1 pc = .ok (.invokespecial idx, 3)) (hnx : ∀ E a g1 n1, ¬ P2 (.inr (E, a)) g1 n1) (kk : ∀ v g1 n1, P2 (.inl v) g1 n1 → PW Y d P bc1 bs1 (pc + 3) ls (v.toList ++ rest) g1 n1) : PW Y d P bc bs pc ls (a5 :: a4 :: a3 :: a2 :: a1 :: .ref b :: rest) g n := by
  intro p l e R s m args below meth c D fz N0 C H locs cells slots lr V
  have hf : d ≤ R.frames := C.2.2.2.2.2.2.2.2.2.2.1
  have hlo : 40 * d ≤ R.locals := C.2.2.2.2.2.2.2.2.2.2.2.1
  have h21 := hM.2.2.2.2.2
  have hmet := zmet0 (pw_met l C.2.2.2.2.2.2.2.2.2.1 D fz N0 hM.1 hM.2.1 hh hm hls hc) hnx
  rw [hret] at hmet
  refine zcall (P2 := P2) (mc := k2) (ms := ks2) (rest := rest.map (zv_tr (zr fz N0))) (zrun_of (va_runI (As := [zv_tr (zr fz N0) a1, zv_tr (zr fz N0) a2, zv_tr (zr fz N0) a3, zv_tr (zr fz N0) a4, zv_tr (zr fz N0) a5]) ⟨C.1, C.2.1, C.2.2.2.1, C.own, C.hts⟩ hmet (cwI 5 C.hts hG rfl rfl rfl (C.hts _ hini) (C.hts _ hl) (C.hts _ hin) hy1 ⟨hM.2.2.1, hM.2.2.2.1, hM.2.2.2.2.1⟩ ⟨(by show d2 + 1 ≤ _; omega), (by show 8 + (_ + 11) + 40 * d2 ≤ _; omega)⟩) ⟨zPc_blind, fun U hU hW => ⟨rfl, by rw [hU]; exact V.1, C.env.moved (by rw [hU]; exact V.2.1) hW⟩⟩ rfl rfl V.2.2.1.1 rfl (by show 2 * 0 + _ ≤ 8; rw [zcat_sum]; omega) dd ⟨(by have := V.2.2.2.1; omega), (by have := V.2.2.2.2; omega)⟩)) V.2.1 (fun v g1 n1 H1 locs1 hp hR hS => by
    have h9 := kk v g1 n1 hp p l e R s m args below meth c D fz N0 C H1 locs1 (cells + k2) (slots + ks2) lr ⟨hR, hS, V.2.2.1, by have := V.2.2.2.1; omega, by have := V.2.2.2.2; omega⟩
    rw [List.map_append] at h9
    rw [show (v.toList.map (zv_tr (zr fz N0))) = (v.map (zv_tr (zr fz N0))).toList from by cases v <;> rfl] at h9
    exact h9) (fun E a g1 n1 ce H1 locs1 hp hR hS h1 h2 h3 h4 => absurd hp (hnx _ _ _ _))
theorem pw_callIN5 {a1 a2 a3 a4 a5 : Value} (hM : zM Y2 5) (hh : Y2.2.2.2.2.2 = []) (hret : Y2.2.2.2.2.1 = none) (hy1 : Y2.1.name = "<init>") {host : String} (hl : Cond.methodLinkNest Y.2.1 idx Y2.1 host ∈ lw_tbl) (hG : GoodIn lw_all (ws_ Y2.1 Y2.2.2.1 Y2.2.2.2.1 none)) (hini : Cond.initialized Y2.1.cls ∈ lw_all) (hin : Cond.instanceMethod Y2.1 ∈ lw_all) (hc : PW Y2 d2 P2 k2 ks2 0 ls0 [] g n) (hd : d2 + 1 ≤ d) (hbc : bc1 + k2 ≤ bc) (hbs : bs1 + ks2 ≤ bs) (hls : lv_args 0 (.ref b :: [a1, a2, a3, a4, a5]) = ls0) (hm : (lg_sl (.ref b :: [a1, a2, a3, a4, a5])).length ≤ Y2.2.2.2.1) (hst : (rest.map fun v => v.category).sum ≤ 8) (dd : decode Y.2.2.1 pc = .ok (.invokespecial idx, 3)) (hnx : ∀ E a g1 n1, ¬ P2 (.inr (E, a)) g1 n1) (kk : ∀ v g1 n1, P2 (.inl v) g1 n1 → PW Y d P bc1 bs1 (pc + 3) ls (v.toList ++ rest) g1 n1) : PW Y d P bc bs pc ls (a5 :: a4 :: a3 :: a2 :: a1 :: .ref b :: rest) g n := by
  intro p l e R s m args below meth c D fz N0 C H locs cells slots lr V
  have hf : d ≤ R.frames := C.2.2.2.2.2.2.2.2.2.2.1
  have hlo : 40 * d ≤ R.locals := C.2.2.2.2.2.2.2.2.2.2.2.1
  have h21 := hM.2.2.2.2.2
  have hmet := zmet0 (pw_met l C.2.2.2.2.2.2.2.2.2.1 D fz N0 hM.1 hM.2.1 hh hm hls hc) hnx
  rw [hret] at hmet
  refine zcall (P2 := P2) (mc := k2) (ms := ks2) (rest := rest.map (zv_tr (zr fz N0))) (zrun_of (va_runIN (As := [zv_tr (zr fz N0) a1, zv_tr (zr fz N0) a2, zv_tr (zr fz N0) a3, zv_tr (zr fz N0) a4, zv_tr (zr fz N0) a5]) ⟨C.1, C.2.1, C.2.2.2.1, C.own, C.hts⟩ hmet ⟨va_cnB 5 C.hts hG rfl rfl rfl (C.env.2.2.2.2.1 _ hl rfl) (C.hts _ hini) ⟨hM.2.2.1, hM.2.2.2.1, hM.2.2.2.2.1⟩ ⟨(by show d2 + 1 ≤ _; omega), (by show 8 + (_ + 11) + 40 * d2 ≤ _; omega)⟩, hy1, C.hts _ hin⟩ ⟨zPc_blind, fun U hU hW => ⟨rfl, by rw [hU]; exact V.1, C.env.moved (by rw [hU]; exact V.2.1) hW⟩⟩ rfl rfl V.2.2.1.1 rfl (by show 2 * 0 + _ ≤ 8; rw [zcat_sum]; omega) dd ⟨(by have := V.2.2.2.1; omega), (by have := V.2.2.2.2; omega)⟩)) V.2.1 (fun v g1 n1 H1 locs1 hp hR hS => by
    have h9 := kk v g1 n1 hp p l e R s m args below meth c D fz N0 C H1 locs1 (cells + k2) (slots + ks2) lr ⟨hR, hS, V.2.2.1, by have := V.2.2.2.1; omega, by have := V.2.2.2.2; omega⟩
    rw [List.map_append] at h9
    rw [show (v.toList.map (zv_tr (zr fz N0))) = (v.map (zv_tr (zr fz N0))).toList from by cases v <;> rfl] at h9
    exact h9) (fun E a g1 n1 ce H1 locs1 hp hR hS h1 h2 h3 h4 => absurd hp (hnx _ _ _ _))
theorem pw_callV6 {a1 a2 a3 a4 a5 a6 : Value} (hM : zM Y2 6) (hh : Y2.2.2.2.2.2 = []) (hG : GoodIn lw_all (wsV Y.2.1 idx C9 Y2.1 (ws_ Y2.1 Y2.2.2.1 Y2.2.2.2.1 Y2.2.2.2.2.1))) (hC : Y2.2.1 = C9) (hs : zsh g b = some (.inl ci)) (hcf : zCF C9 T9 N9 ci ty0) (hc : PW Y2 d2 P2 k2 ks2 0 ls0 [] g n) (hd : d2 + 1 ≤ d) (hbc : bc1 + k2 ≤ bc) (hbs : bs1 + ks2 ≤ bs) (hls : lv_args 0 (.ref b :: [a1, a2, a3, a4, a5, a6]) = ls0) (hm : (lg_sl (.ref b :: [a1, a2, a3, a4, a5, a6])).length ≤ Y2.2.2.2.1) (hst : (rest.map fun v => v.category).sum ≤ 8) (dd : decode Y.2.2.1 pc = .ok (.invokevirtual idx, 3)) (hnx : ∀ E a g1 n1, ¬ P2 (.inr (E, a)) g1 n1) (kk : ∀ v g1 n1, P2 (.inl v) g1 n1 → PW Y d P bc1 bs1 (pc + 3) ls (v.toList ++ rest) g1 n1)  : PW Y d P bc bs pc ls (a6 :: a5 :: a4 :: a3 :: a2 :: a1 :: .ref b :: rest) g n := by
  intro p l e R s m args below meth c D fz N0 C H locs cells slots lr V
  have hf : d ≤ R.frames := C.2.2.2.2.2.2.2.2.2.2.1
  have hlo : 40 * d ≤ R.locals := C.2.2.2.2.2.2.2.2.2.2.2.1
  have h21 := hM.2.2.2.2.2
  refine zcall (P2 := P2) (mc := k2) (ms := ks2) (rest := rest.map (zv_tr (zr fz N0))) (zrun_of (va_runV (As := [zv_tr (zr fz N0) a1, zv_tr (zr fz N0) a2, zv_tr (zr fz N0) a3, zv_tr (zr fz N0) a4, zv_tr (zr fz N0) a5, zv_tr (zr fz N0) a6]) ⟨C.1, C.2.1, C.2.2.2.1, C.own, C.hts⟩ (zmet0 (pw_met l C.2.2.2.2.2.2.2.2.2.1 D fz N0 hM.1 hM.2.1 hh hm hls hc) hnx) (cwV 6 C.hts hG rfl rfl rfl ⟨hM.2.1.trans hC, hM.2.2.1, hM.2.2.2.1, hM.2.2.2.2.1⟩ ⟨(by show d2 + 1 ≤ _; omega), (by show 8 + (_ + 11) + 40 * d2 ≤ _; omega)⟩) ⟨zPc_blind, zrecv C V.1 hs hcf, fun U hU hW => ⟨rfl, by rw [hU]; exact V.1, C.env.moved (by rw [hU]; exact V.2.1) hW⟩⟩ rfl rfl V.2.2.1.1 rfl (by show 2 * 0 + _ ≤ 8; rw [zcat_sum]; omega) dd ⟨(by have := V.2.2.2.1; omega), (by have := V.2.2.2.2; omega)⟩)) V.2.1 (fun v g1 n1 H1 locs1 hp hR hS => by
    have h9 := kk v g1 n1 hp p l e R s m args below meth c D fz N0 C H1 locs1 (cells + k2) (slots + ks2) lr ⟨hR, hS, V.2.2.1, by have := V.2.2.2.1; omega, by have := V.2.2.2.2; omega⟩
    rw [List.map_append] at h9
    rw [show (v.toList.map (zv_tr (zr fz N0))) = (v.map (zv_tr (zr fz N0))).toList from by cases v <;> rfl] at h9
    exact h9) (fun E a g1 n1 ce H1 locs1 hp hR hS h1 h2 h3 h4 => absurd hp (hnx _ _ _ _))
theorem pw_callVx6 {a1 a2 a3 a4 a5 a6 : Value} (hM : zM Y2 6) (hh : Y2.2.2.2.2.2 = []) (hG : GoodIn lw_all (wsV Y.2.1 idx C9 Y2.1 (ws_ Y2.1 Y2.2.2.1 Y2.2.2.2.1 Y2.2.2.2.2.1))) (hC : Y2.2.1 = C9) (hs : zsh g b = some (.inl ci)) (hcf : zCF C9 T9 N9 ci ty0) (hc : PW Y2 d2 P2 k2 ks2 0 ls0 [] g n) (hd : d2 + 1 ≤ d) (hbc : bc1 + k2 ≤ bc) (hbs : bs1 + ks2 ≤ bs) (hls : lv_args 0 (.ref b :: [a1, a2, a3, a4, a5, a6]) = ls0) (hm : (lg_sl (.ref b :: [a1, a2, a3, a4, a5, a6])).length ≤ Y2.2.2.2.1) (hst : (rest.map fun v => v.category).sum ≤ 8) (dd : decode Y.2.2.1 pc = .ok (.invokevirtual idx, 3))  (kk : ∀ v g1 n1, P2 (.inl v) g1 n1 → PW Y d P bc1 bs1 (pc + 3) ls (v.toList ++ rest) g1 n1) (kx : ∀ E a g1 n1, P2 (.inr (E, a)) g1 n1 → PX Y d P bc1 bs1 pc ls E a g1 n1) : PW Y d P bc bs pc ls (a6 :: a5 :: a4 :: a3 :: a2 :: a1 :: .ref b :: rest) g n := by
  intro p l e R s m args below meth c D fz N0 C H locs cells slots lr V
  have hf : d ≤ R.frames := C.2.2.2.2.2.2.2.2.2.2.1
  have hlo : 40 * d ≤ R.locals := C.2.2.2.2.2.2.2.2.2.2.2.1
  have h21 := hM.2.2.2.2.2
  refine zcall (P2 := P2) (mc := k2) (ms := ks2) (rest := rest.map (zv_tr (zr fz N0))) (vx_runV (As := [zv_tr (zr fz N0) a1, zv_tr (zr fz N0) a2, zv_tr (zr fz N0) a3, zv_tr (zr fz N0) a4, zv_tr (zr fz N0) a5, zv_tr (zr fz N0) a6]) ⟨C.1, C.2.1, C.2.2.2.1, C.own, C.hts⟩ (pw_met l C.2.2.2.2.2.2.2.2.2.1 D fz N0 hM.1 hM.2.1 hh hm hls hc) (cwV 6 C.hts hG rfl rfl rfl ⟨hM.2.1.trans hC, hM.2.2.1, hM.2.2.2.1, hM.2.2.2.2.1⟩ ⟨(by show d2 + 1 ≤ _; omega), (by show 8 + (_ + 11) + 40 * d2 ≤ _; omega)⟩) ⟨zPc_blind, zrecv C V.1 hs hcf, fun U hU hW => ⟨rfl, by rw [hU]; exact V.1, C.env.moved (by rw [hU]; exact V.2.1) hW⟩⟩ rfl rfl V.2.2.1.1 rfl (by show 2 * 0 + _ ≤ 8; rw [zcat_sum]; omega) dd ⟨(by have := V.2.2.2.1; omega), (by have := V.2.2.2.2; omega)⟩) V.2.1 (fun v g1 n1 H1 locs1 hp hR hS => by
    have h9 := kk v g1 n1 hp p l e R s m args below meth c D fz N0 C H1 locs1 (cells + k2) (slots + ks2) lr ⟨hR, hS, V.2.2.1, by have := V.2.2.2.1; omega, by have := V.2.2.2.2; omega⟩
    rw [List.map_append] at h9
    rw [show (v.toList.map (zv_tr (zr fz N0))) = (v.map (zv_tr (zr fz N0))).toList from by cases v <;> rfl] at h9
    exact h9) (fun E a g1 n1 ce H1 locs1 hp hR hS h1 h2 h3 h4 => kx E a g1 n1 hp p l e R s m args below meth c D fz N0 C H1 locs1 _ _ lr ⟨hR, hS, V.2.2.1, by have := V.2.2.2.1; omega, by have := V.2.2.2.2; omega⟩ ce _ h1 h2 h3 h4)
theorem pw_callU6 {a1 a2 a3 a4 a5 a6 : Value} (hM : zM Y2 6) (hh : Y2.2.2.2.2.2 = []) {x : MethodName} {owner : String} (hG : GoodIn lw_all (va_wsU Y.2.1 idx C9 owner x Y2.1 (ws_ Y2.1 Y2.2.2.1 Y2.2.2.2.1 Y2.2.2.2.2.1))) (hx : Y2.1 = ⟨owner, x.name, x.desc⟩) (ho : owner ≠ "java/lang/invoke/MethodHandle" ∧ owner ≠ "java/lang/invoke/VarHandle" ∧ (parseMethodDescriptor x.desc).map (fun d => d.parameters.length) = some 6) (hs : zsh g b = some (.inl ci)) (hcf : zCF C9 T9 N9 ci ty0) (hc : PW Y2 d2 P2 k2 ks2 0 ls0 [] g n) (hd : d2 + 1 ≤ d) (hbc : bc1 + k2 ≤ bc) (hbs : bs1 + ks2 ≤ bs) (hls : lv_args 0 (.ref b :: [a1, a2, a3, a4, a5, a6]) = ls0) (hm : (lg_sl (.ref b :: [a1, a2, a3, a4, a5, a6])).length ≤ Y2.2.2.2.1) (hst : (rest.map fun v => v.category).sum ≤ 8) (dd : decode Y.2.2.1 pc = .ok (.invokevirtual idx, 3)) (hnx : ∀ E a g1 n1, ¬ P2 (.inr (E, a)) g1 n1) (kk : ∀ v g1 n1, P2 (.inl v) g1 n1 → PW Y d P bc1 bs1 (pc + 3) ls (v.toList ++ rest) g1 n1)  : PW Y d P bc bs pc ls (a6 :: a5 :: a4 :: a3 :: a2 :: a1 :: .ref b :: rest) g n := by
  intro p l e R s m args below meth c D fz N0 C H locs cells slots lr V
  have hf : d ≤ R.frames := C.2.2.2.2.2.2.2.2.2.2.1
  have hlo : 40 * d ≤ R.locals := C.2.2.2.2.2.2.2.2.2.2.2.1
  have h21 := hM.2.2.2.2.2
  refine zcall (P2 := P2) (mc := k2) (ms := ks2) (rest := rest.map (zv_tr (zr fz N0))) (zrun_of (va_runU (As := [zv_tr (zr fz N0) a1, zv_tr (zr fz N0) a2, zv_tr (zr fz N0) a3, zv_tr (zr fz N0) a4, zv_tr (zr fz N0) a5, zv_tr (zr fz N0) a6]) ⟨C.1, C.2.1, C.2.2.2.1, C.own, C.hts⟩ (zmet0 (pw_met l C.2.2.2.2.2.2.2.2.2.1 D fz N0 hM.1 hM.2.1 hh hm hls hc) hnx) (va_cwU 6 C.hts hG rfl rfl rfl hx ho ⟨(by show d2 + 1 ≤ _; omega), (by show 8 + (_ + 11) + 40 * d2 ≤ _; omega)⟩) ⟨zPc_blind, zrecv C V.1 hs hcf, fun U hU hW => ⟨rfl, by rw [hU]; exact V.1, C.env.moved (by rw [hU]; exact V.2.1) hW⟩⟩ rfl rfl V.2.2.1.1 rfl (by show 2 * 0 + _ ≤ 8; rw [zcat_sum]; omega) dd ⟨(by have := V.2.2.2.1; omega), (by have := V.2.2.2.2; omega)⟩)) V.2.1 (fun v g1 n1 H1 locs1 hp hR hS => by
    have h9 := kk v g1 n1 hp p l e R s m args below meth c D fz N0 C H1 locs1 (cells + k2) (slots + ks2) lr ⟨hR, hS, V.2.2.1, by have := V.2.2.2.1; omega, by have := V.2.2.2.2; omega⟩
    rw [List.map_append] at h9
    rw [show (v.toList.map (zv_tr (zr fz N0))) = (v.map (zv_tr (zr fz N0))).toList from by cases v <;> rfl] at h9
    exact h9) (fun E a g1 n1 ce H1 locs1 hp hR hS h1 h2 h3 h4 => absurd hp (hnx _ _ _ _))
theorem pw_callVN6 {a1 a2 a3 a4 a5 a6 : Value} (hM : zM Y2 6) (hh : Y2.2.2.2.2.2 = []) {host : String} (hl : Cond.methodLinkNest Y.2.1 idx Y2.1 host ∈ lw_tbl) (hG : GoodIn lw_all (ws_ Y2.1 Y2.2.2.1 Y2.2.2.2.1 Y2.2.2.2.2.1)) (hini : Cond.initialized Y2.1.cls ∈ lw_all) (hin : Cond.instanceMethod Y2.1 ∈ lw_all) (hse : Cond.selects C9 Y2.1 Y2.1 ∈ lw_all) (hs : zsh g b = some (.inl ci)) (hcf : zCF C9 T9 N9 ci ty0) (hc : PW Y2 d2 P2 k2 ks2 0 ls0 [] g n) (hd : d2 + 1 ≤ d) (hbc : bc1 + k2 ≤ bc) (hbs : bs1 + ks2 ≤ bs) (hls : lv_args 0 (.ref b :: [a1, a2, a3, a4, a5, a6]) = ls0) (hm : (lg_sl (.ref b :: [a1, a2, a3, a4, a5, a6])).length ≤ Y2.2.2.2.1) (hst : (rest.map fun v => v.category).sum ≤ 8) (dd : decode Y.2.2.1 pc = .ok (.invokevirtual idx, 3)) (hnx : ∀ E a g1 n1, ¬ P2 (.inr (E, a)) g1 n1) (kk : ∀ v g1 n1, P2 (.inl v) g1 n1 → PW Y d P bc1 bs1 (pc + 3) ls (v.toList ++ rest) g1 n1)  : PW Y d P bc bs pc ls (a6 :: a5 :: a4 :: a3 :: a2 :: a1 :: .ref b :: rest) g n := by
  intro p l e R s m args below meth c D fz N0 C H locs cells slots lr V
  have hf : d ≤ R.frames := C.2.2.2.2.2.2.2.2.2.2.1
  have hlo : 40 * d ≤ R.locals := C.2.2.2.2.2.2.2.2.2.2.2.1
  have h21 := hM.2.2.2.2.2
  refine zcall (P2 := P2) (mc := k2) (ms := ks2) (rest := rest.map (zv_tr (zr fz N0))) (zrun_of (va_runVN (As := [zv_tr (zr fz N0) a1, zv_tr (zr fz N0) a2, zv_tr (zr fz N0) a3, zv_tr (zr fz N0) a4, zv_tr (zr fz N0) a5, zv_tr (zr fz N0) a6]) ⟨C.1, C.2.1, C.2.2.2.1, C.own, C.hts⟩ (zmet0 (pw_met l C.2.2.2.2.2.2.2.2.2.1 D fz N0 hM.1 hM.2.1 hh hm hls hc) hnx) ⟨va_cnB 6 C.hts hG rfl rfl rfl (C.env.2.2.2.2.1 _ hl rfl) (C.hts _ hini) ⟨hM.2.2.1, hM.2.2.2.1, hM.2.2.2.2.1⟩ ⟨(by show d2 + 1 ≤ _; omega), (by show 8 + (_ + 11) + 40 * d2 ≤ _; omega)⟩, C.hts _ hin, C.hts _ hse⟩ ⟨zPc_blind, zrecv C V.1 hs hcf, fun U hU hW => ⟨rfl, by rw [hU]; exact V.1, C.env.moved (by rw [hU]; exact V.2.1) hW⟩⟩ rfl rfl V.2.2.1.1 rfl (by show 2 * 0 + _ ≤ 8; rw [zcat_sum]; omega) dd ⟨(by have := V.2.2.2.1; omega), (by have := V.2.2.2.2; omega)⟩)) V.2.1 (fun v g1 n1 H1 locs1 hp hR hS => by
    have h9 := kk v g1 n1 hp p l e R s m args below meth c D fz N0 C H1 locs1 (cells + k2) (slots + ks2) lr ⟨hR, hS, V.2.2.1, by have := V.2.2.2.1; omega, by have := V.2.2.2.2; omega⟩
    rw [List.map_append] at h9
    rw [show (v.toList.map (zv_tr (zr fz N0))) = (v.map (zv_tr (zr fz N0))).toList from by cases v <;> rfl] at h9
    exact h9) (fun E a g1 n1 ce H1 locs1 hp hR hS h1 h2 h3 h4 => absurd hp (hnx _ _ _ _))
theorem pw_callS6 {a1 a2 a3 a4 a5 a6 : Value} (hM : zM Y2 6) (hh : Y2.2.2.2.2.2 = []) (hG : GoodIn lw_all (va_wsS Y.2.1 idx Y2.1 (ws_ Y2.1 Y2.2.2.1 Y2.2.2.2.1 Y2.2.2.2.2.1))) (hc : PW Y2 d2 P2 k2 ks2 0 ls0 [] g n) (hd : d2 + 1 ≤ d) (hbc : bc1 + k2 ≤ bc) (hbs : bs1 + ks2 ≤ bs) (hls : lv_args 0 [a1, a2, a3, a4, a5, a6] = ls0) (hm : (lg_sl [a1, a2, a3, a4, a5, a6]).length ≤ Y2.2.2.2.1) (hst : (rest.map fun v => v.category).sum ≤ 8) (dd : decode Y.2.2.1 pc = .ok (.invokestatic idx, 3)) (hnx : ∀ E a g1 n1, ¬ P2 (.inr (E, a)) g1 n1) (kk : ∀ v g1 n1, P2 (.inl v) g1 n1 → PW Y d P bc1 bs1 (pc + 3) ls (v.toList ++ rest) g1 n1)  : PW Y d P bc bs pc ls (a6 :: a5 :: a4 :: a3 :: a2 :: a1 :: rest) g n := by
  intro p l e R s m args below meth c D fz N0 C H locs cells slots lr V
  have hf : d ≤ R.frames := C.2.2.2.2.2.2.2.2.2.2.1
  have hlo : 40 * d ≤ R.locals := C.2.2.2.2.2.2.2.2.2.2.2.1
  have h21 := hM.2.2.2.2.2
  refine zcall (P2 := P2) (mc := k2) (ms := ks2) (rest := rest.map (zv_tr (zr fz N0))) (zrun_of (va_runS (As := [zv_tr (zr fz N0) a1, zv_tr (zr fz N0) a2, zv_tr (zr fz N0) a3, zv_tr (zr fz N0) a4, zv_tr (zr fz N0) a5, zv_tr (zr fz N0) a6]) ⟨C.1, C.2.1, C.2.2.2.1, C.own, C.hts⟩ (zmet0 (pw_met l C.2.2.2.2.2.2.2.2.2.1 D fz N0 hM.1 hM.2.1 hh hm hls hc) hnx) (va_cwS 6 C.hts hG rfl rfl rfl ⟨hM.2.2.1, hM.2.2.2.1, hM.2.2.2.2.1⟩ ⟨(by show d2 + 1 ≤ _; omega), (by show 8 + (_ + 11) + 40 * d2 ≤ _; omega)⟩) ⟨zPc_blind, fun U hU hW => ⟨rfl, by rw [hU]; exact V.1, C.env.moved (by rw [hU]; exact V.2.1) hW⟩⟩ rfl rfl V.2.2.1.1 rfl (by show 2 * 0 + _ ≤ 8; rw [zcat_sum]; omega) dd ⟨(by have := V.2.2.2.1; omega), (by have := V.2.2.2.2; omega)⟩)) V.2.1 (fun v g1 n1 H1 locs1 hp hR hS => by
    have h9 := kk v g1 n1 hp p l e R s m args below meth c D fz N0 C H1 locs1 (cells + k2) (slots + ks2) lr ⟨hR, hS, V.2.2.1, by have := V.2.2.2.1; omega, by have := V.2.2.2.2; omega⟩
    rw [List.map_append] at h9
    rw [show (v.toList.map (zv_tr (zr fz N0))) = (v.map (zv_tr (zr fz N0))).toList from by cases v <;> rfl] at h9
    exact h9) (fun E a g1 n1 ce H1 locs1 hp hR hS h1 h2 h3 h4 => absurd hp (hnx _ _ _ _))
theorem pw_callI6 {a1 a2 a3 a4 a5 a6 : Value} (hM : zM Y2 6) (hh : Y2.2.2.2.2.2 = []) (hret : Y2.2.2.2.2.1 = none) (hy1 : Y2.1.name = "<init>") (hG : GoodIn lw_all (ws_ Y2.1 Y2.2.2.1 Y2.2.2.2.1 none)) (hini : Cond.initialized Y2.1.cls ∈ lw_all) (hl : Cond.methodLink Y.2.1 idx Y2.1 ∈ lw_all) (hin : Cond.instanceMethod Y2.1 ∈ lw_all) (hc : PW Y2 d2 P2 k2 ks2 0 ls0 [] g n) (hd : d2 + 1 ≤ d) (hbc : bc1 + k2 ≤ bc) (hbs : bs1 + ks2 ≤ bs) (hls : lv_args 0 (.ref b :: [a1, a2, a3, a4, a5, a6]) = ls0) (hm : (lg_sl (.ref b :: [a1, a2, a3, a4, a5, a6])).length ≤ Y2.2.2.2.1) (hst : (rest.map fun v => v.category).sum ≤ 8) (dd : decode Y.2.2.1 pc = .ok (.invokespecial idx, 3)) (hnx : ∀ E a g1 n1, ¬ P2 (.inr (E, a)) g1 n1) (kk : ∀ v g1 n1, P2 (.inl v) g1 n1 → PW Y d P bc1 bs1 (pc + 3) ls (v.toList ++ rest) g1 n1) : PW Y d P bc bs pc ls (a6 :: a5 :: a4 :: a3 :: a2 :: a1 :: .ref b :: rest) g n := by
  intro p l e R s m args below meth c D fz N0 C H locs cells slots lr V
  have hf : d ≤ R.frames := C.2.2.2.2.2.2.2.2.2.2.1
  have hlo : 40 * d ≤ R.locals := C.2.2.2.2.2.2.2.2.2.2.2.1
  have h21 := hM.2.2.2.2.2
  have hmet := zmet0 (pw_met l C.2.2.2.2.2.2.2.2.2.1 D fz N0 hM.1 hM.2.1 hh hm hls hc) hnx
  rw [hret] at hmet
  refine zcall (P2 := P2) (mc := k2) (ms := ks2) (rest := rest.map (zv_tr (zr fz N0))) (zrun_of (va_runI (As := [zv_tr (zr fz N0) a1, zv_tr (zr fz N0) a2, zv_tr (zr fz N0) a3, zv_tr (zr fz N0) a4, zv_tr (zr fz N0) a5, zv_tr (zr fz N0) a6]) ⟨C.1, C.2.1, C.2.2.2.1, C.own, C.hts⟩ hmet (cwI 6 C.hts hG rfl rfl rfl (C.hts _ hini) (C.hts _ hl) (C.hts _ hin) hy1 ⟨hM.2.2.1, hM.2.2.2.1, hM.2.2.2.2.1⟩ ⟨(by show d2 + 1 ≤ _; omega), (by show 8 + (_ + 11) + 40 * d2 ≤ _; omega)⟩) ⟨zPc_blind, fun U hU hW => ⟨rfl, by rw [hU]; exact V.1, C.env.moved (by rw [hU]; exact V.2.1) hW⟩⟩ rfl rfl V.2.2.1.1 rfl (by show 2 * 0 + _ ≤ 8; rw [zcat_sum]; omega) dd ⟨(by have := V.2.2.2.1; omega), (by have := V.2.2.2.2; omega)⟩)) V.2.1 (fun v g1 n1 H1 locs1 hp hR hS => by
    have h9 := kk v g1 n1 hp p l e R s m args below meth c D fz N0 C H1 locs1 (cells + k2) (slots + ks2) lr ⟨hR, hS, V.2.2.1, by have := V.2.2.2.1; omega, by have := V.2.2.2.2; omega⟩
    rw [List.map_append] at h9
    rw [show (v.toList.map (zv_tr (zr fz N0))) = (v.map (zv_tr (zr fz N0))).toList from by cases v <;> rfl] at h9
    exact h9) (fun E a g1 n1 ce H1 locs1 hp hR hS h1 h2 h3 h4 => absurd hp (hnx _ _ _ _))
theorem pw_callIN6 {a1 a2 a3 a4 a5 a6 : Value} (hM : zM Y2 6) (hh : Y2.2.2.2.2.2 = []) (hret : Y2.2.2.2.2.1 = none) (hy1 : Y2.1.name = "<init>") {host : String} (hl : Cond.methodLinkNest Y.2.1 idx Y2.1 host ∈ lw_tbl) (hG : GoodIn lw_all (ws_ Y2.1 Y2.2.2.1 Y2.2.2.2.1 none)) (hini : Cond.initialized Y2.1.cls ∈ lw_all) (hin : Cond.instanceMethod Y2.1 ∈ lw_all) (hc : PW Y2 d2 P2 k2 ks2 0 ls0 [] g n) (hd : d2 + 1 ≤ d) (hbc : bc1 + k2 ≤ bc) (hbs : bs1 + ks2 ≤ bs) (hls : lv_args 0 (.ref b :: [a1, a2, a3, a4, a5, a6]) = ls0) (hm : (lg_sl (.ref b :: [a1, a2, a3, a4, a5, a6])).length ≤ Y2.2.2.2.1) (hst : (rest.map fun v => v.category).sum ≤ 8) (dd : decode Y.2.2.1 pc = .ok (.invokespecial idx, 3)) (hnx : ∀ E a g1 n1, ¬ P2 (.inr (E, a)) g1 n1) (kk : ∀ v g1 n1, P2 (.inl v) g1 n1 → PW Y d P bc1 bs1 (pc + 3) ls (v.toList ++ rest) g1 n1) : PW Y d P bc bs pc ls (a6 :: a5 :: a4 :: a3 :: a2 :: a1 :: .ref b :: rest) g n := by
  intro p l e R s m args below meth c D fz N0 C H locs cells slots lr V
  have hf : d ≤ R.frames := C.2.2.2.2.2.2.2.2.2.2.1
  have hlo : 40 * d ≤ R.locals := C.2.2.2.2.2.2.2.2.2.2.2.1
  have h21 := hM.2.2.2.2.2
  have hmet := zmet0 (pw_met l C.2.2.2.2.2.2.2.2.2.1 D fz N0 hM.1 hM.2.1 hh hm hls hc) hnx
  rw [hret] at hmet
  refine zcall (P2 := P2) (mc := k2) (ms := ks2) (rest := rest.map (zv_tr (zr fz N0))) (zrun_of (va_runIN (As := [zv_tr (zr fz N0) a1, zv_tr (zr fz N0) a2, zv_tr (zr fz N0) a3, zv_tr (zr fz N0) a4, zv_tr (zr fz N0) a5, zv_tr (zr fz N0) a6]) ⟨C.1, C.2.1, C.2.2.2.1, C.own, C.hts⟩ hmet ⟨va_cnB 6 C.hts hG rfl rfl rfl (C.env.2.2.2.2.1 _ hl rfl) (C.hts _ hini) ⟨hM.2.2.1, hM.2.2.2.1, hM.2.2.2.2.1⟩ ⟨(by show d2 + 1 ≤ _; omega), (by show 8 + (_ + 11) + 40 * d2 ≤ _; omega)⟩, hy1, C.hts _ hin⟩ ⟨zPc_blind, fun U hU hW => ⟨rfl, by rw [hU]; exact V.1, C.env.moved (by rw [hU]; exact V.2.1) hW⟩⟩ rfl rfl V.2.2.1.1 rfl (by show 2 * 0 + _ ≤ 8; rw [zcat_sum]; omega) dd ⟨(by have := V.2.2.2.1; omega), (by have := V.2.2.2.2; omega)⟩)) V.2.1 (fun v g1 n1 H1 locs1 hp hR hS => by
    have h9 := kk v g1 n1 hp p l e R s m args below meth c D fz N0 C H1 locs1 (cells + k2) (slots + ks2) lr ⟨hR, hS, V.2.2.1, by have := V.2.2.2.1; omega, by have := V.2.2.2.2; omega⟩
    rw [List.map_append] at h9
    rw [show (v.toList.map (zv_tr (zr fz N0))) = (v.map (zv_tr (zr fz N0))).toList from by cases v <;> rfl] at h9
    exact h9) (fun E a g1 n1 ce H1 locs1 hp hR hS h1 h2 h3 h4 => absurd hp (hnx _ _ _ _))
theorem pw_callV7 {a1 a2 a3 a4 a5 a6 a7 : Value} (hM : zM Y2 7) (hh : Y2.2.2.2.2.2 = []) (hG : GoodIn lw_all (wsV Y.2.1 idx C9 Y2.1 (ws_ Y2.1 Y2.2.2.1 Y2.2.2.2.1 Y2.2.2.2.2.1))) (hC : Y2.2.1 = C9) (hs : zsh g b = some (.inl ci)) (hcf : zCF C9 T9 N9 ci ty0) (hc : PW Y2 d2 P2 k2 ks2 0 ls0 [] g n) (hd : d2 + 1 ≤ d) (hbc : bc1 + k2 ≤ bc) (hbs : bs1 + ks2 ≤ bs) (hls : lv_args 0 (.ref b :: [a1, a2, a3, a4, a5, a6, a7]) = ls0) (hm : (lg_sl (.ref b :: [a1, a2, a3, a4, a5, a6, a7])).length ≤ Y2.2.2.2.1) (hst : (rest.map fun v => v.category).sum ≤ 8) (dd : decode Y.2.2.1 pc = .ok (.invokevirtual idx, 3)) (hnx : ∀ E a g1 n1, ¬ P2 (.inr (E, a)) g1 n1) (kk : ∀ v g1 n1, P2 (.inl v) g1 n1 → PW Y d P bc1 bs1 (pc + 3) ls (v.toList ++ rest) g1 n1)  : PW Y d P bc bs pc ls (a7 :: a6 :: a5 :: a4 :: a3 :: a2 :: a1 :: .ref b :: rest) g n := by
  intro p l e R s m args below meth c D fz N0 C H locs cells slots lr V
  have hf : d ≤ R.frames := C.2.2.2.2.2.2.2.2.2.2.1
  have hlo : 40 * d ≤ R.locals := C.2.2.2.2.2.2.2.2.2.2.2.1
  have h21 := hM.2.2.2.2.2
  refine zcall (P2 := P2) (mc := k2) (ms := ks2) (rest := rest.map (zv_tr (zr fz N0))) (zrun_of (va_runV (As := [zv_tr (zr fz N0) a1, zv_tr (zr fz N0) a2, zv_tr (zr fz N0) a3, zv_tr (zr fz N0) a4, zv_tr (zr fz N0) a5, zv_tr (zr fz N0) a6, zv_tr (zr fz N0) a7]) ⟨C.1, C.2.1, C.2.2.2.1, C.own, C.hts⟩ (zmet0 (pw_met l C.2.2.2.2.2.2.2.2.2.1 D fz N0 hM.1 hM.2.1 hh hm hls hc) hnx) (cwV 7 C.hts hG rfl rfl rfl ⟨hM.2.1.trans hC, hM.2.2.1, hM.2.2.2.1, hM.2.2.2.2.1⟩ ⟨(by show d2 + 1 ≤ _; omega), (by show 8 + (_ + 11) + 40 * d2 ≤ _; omega)⟩) ⟨zPc_blind, zrecv C V.1 hs hcf, fun U hU hW => ⟨rfl, by rw [hU]; exact V.1, C.env.moved (by rw [hU]; exact V.2.1) hW⟩⟩ rfl rfl V.2.2.1.1 rfl (by show 2 * 0 + _ ≤ 8; rw [zcat_sum]; omega) dd ⟨(by have := V.2.2.2.1; omega), (by have := V.2.2.2.2; omega)⟩)) V.2.1 (fun v g1 n1 H1 locs1 hp hR hS => by
    have h9 := kk v g1 n1 hp p l e R s m args below meth c D fz N0 C H1 locs1 (cells + k2) (slots + ks2) lr ⟨hR, hS, V.2.2.1, by have := V.2.2.2.1; omega, by have := V.2.2.2.2; omega⟩
    rw [List.map_append] at h9
    rw [show (v.toList.map (zv_tr (zr fz N0))) = (v.map (zv_tr (zr fz N0))).toList from by cases v <;> rfl] at h9
    exact h9) (fun E a g1 n1 ce H1 locs1 hp hR hS h1 h2 h3 h4 => absurd hp (hnx _ _ _ _))
theorem pw_callVx7 {a1 a2 a3 a4 a5 a6 a7 : Value} (hM : zM Y2 7) (hh : Y2.2.2.2.2.2 = []) (hG : GoodIn lw_all (wsV Y.2.1 idx C9 Y2.1 (ws_ Y2.1 Y2.2.2.1 Y2.2.2.2.1 Y2.2.2.2.2.1))) (hC : Y2.2.1 = C9) (hs : zsh g b = some (.inl ci)) (hcf : zCF C9 T9 N9 ci ty0) (hc : PW Y2 d2 P2 k2 ks2 0 ls0 [] g n) (hd : d2 + 1 ≤ d) (hbc : bc1 + k2 ≤ bc) (hbs : bs1 + ks2 ≤ bs) (hls : lv_args 0 (.ref b :: [a1, a2, a3, a4, a5, a6, a7]) = ls0) (hm : (lg_sl (.ref b :: [a1, a2, a3, a4, a5, a6, a7])).length ≤ Y2.2.2.2.1) (hst : (rest.map fun v => v.category).sum ≤ 8) (dd : decode Y.2.2.1 pc = .ok (.invokevirtual idx, 3))  (kk : ∀ v g1 n1, P2 (.inl v) g1 n1 → PW Y d P bc1 bs1 (pc + 3) ls (v.toList ++ rest) g1 n1) (kx : ∀ E a g1 n1, P2 (.inr (E, a)) g1 n1 → PX Y d P bc1 bs1 pc ls E a g1 n1) : PW Y d P bc bs pc ls (a7 :: a6 :: a5 :: a4 :: a3 :: a2 :: a1 :: .ref b :: rest) g n := by
  intro p l e R s m args below meth c D fz N0 C H locs cells slots lr V
  have hf : d ≤ R.frames := C.2.2.2.2.2.2.2.2.2.2.1
  have hlo : 40 * d ≤ R.locals := C.2.2.2.2.2.2.2.2.2.2.2.1
  have h21 := hM.2.2.2.2.2
  refine zcall (P2 := P2) (mc := k2) (ms := ks2) (rest := rest.map (zv_tr (zr fz N0))) (vx_runV (As := [zv_tr (zr fz N0) a1, zv_tr (zr fz N0) a2, zv_tr (zr fz N0) a3, zv_tr (zr fz N0) a4, zv_tr (zr fz N0) a5, zv_tr (zr fz N0) a6, zv_tr (zr fz N0) a7]) ⟨C.1, C.2.1, C.2.2.2.1, C.own, C.hts⟩ (pw_met l C.2.2.2.2.2.2.2.2.2.1 D fz N0 hM.1 hM.2.1 hh hm hls hc) (cwV 7 C.hts hG rfl rfl rfl ⟨hM.2.1.trans hC, hM.2.2.1, hM.2.2.2.1, hM.2.2.2.2.1⟩ ⟨(by show d2 + 1 ≤ _; omega), (by show 8 + (_ + 11) + 40 * d2 ≤ _; omega)⟩) ⟨zPc_blind, zrecv C V.1 hs hcf, fun U hU hW => ⟨rfl, by rw [hU]; exact V.1, C.env.moved (by rw [hU]; exact V.2.1) hW⟩⟩ rfl rfl V.2.2.1.1 rfl (by show 2 * 0 + _ ≤ 8; rw [zcat_sum]; omega) dd ⟨(by have := V.2.2.2.1; omega), (by have := V.2.2.2.2; omega)⟩) V.2.1 (fun v g1 n1 H1 locs1 hp hR hS => by
    have h9 := kk v g1 n1 hp p l e R s m args below meth c D fz N0 C H1 locs1 (cells + k2) (slots + ks2) lr ⟨hR, hS, V.2.2.1, by have := V.2.2.2.1; omega, by have := V.2.2.2.2; omega⟩
    rw [List.map_append] at h9
    rw [show (v.toList.map (zv_tr (zr fz N0))) = (v.map (zv_tr (zr fz N0))).toList from by cases v <;> rfl] at h9
    exact h9) (fun E a g1 n1 ce H1 locs1 hp hR hS h1 h2 h3 h4 => kx E a g1 n1 hp p l e R s m args below meth c D fz N0 C H1 locs1 _ _ lr ⟨hR, hS, V.2.2.1, by have := V.2.2.2.1; omega, by have := V.2.2.2.2; omega⟩ ce _ h1 h2 h3 h4)
theorem pw_callU7 {a1 a2 a3 a4 a5 a6 a7 : Value} (hM : zM Y2 7) (hh : Y2.2.2.2.2.2 = []) {x : MethodName} {owner : String} (hG : GoodIn lw_all (va_wsU Y.2.1 idx C9 owner x Y2.1 (ws_ Y2.1 Y2.2.2.1 Y2.2.2.2.1 Y2.2.2.2.2.1))) (hx : Y2.1 = ⟨owner, x.name, x.desc⟩) (ho : owner ≠ "java/lang/invoke/MethodHandle" ∧ owner ≠ "java/lang/invoke/VarHandle" ∧ (parseMethodDescriptor x.desc).map (fun d => d.parameters.length) = some 7) (hs : zsh g b = some (.inl ci)) (hcf : zCF C9 T9 N9 ci ty0) (hc : PW Y2 d2 P2 k2 ks2 0 ls0 [] g n) (hd : d2 + 1 ≤ d) (hbc : bc1 + k2 ≤ bc) (hbs : bs1 + ks2 ≤ bs) (hls : lv_args 0 (.ref b :: [a1, a2, a3, a4, a5, a6, a7]) = ls0) (hm : (lg_sl (.ref b :: [a1, a2, a3, a4, a5, a6, a7])).length ≤ Y2.2.2.2.1) (hst : (rest.map fun v => v.category).sum ≤ 8) (dd : decode Y.2.2.1 pc = .ok (.invokevirtual idx, 3)) (hnx : ∀ E a g1 n1, ¬ P2 (.inr (E, a)) g1 n1) (kk : ∀ v g1 n1, P2 (.inl v) g1 n1 → PW Y d P bc1 bs1 (pc + 3) ls (v.toList ++ rest) g1 n1)  : PW Y d P bc bs pc ls (a7 :: a6 :: a5 :: a4 :: a3 :: a2 :: a1 :: .ref b :: rest) g n := by
  intro p l e R s m args below meth c D fz N0 C H locs cells slots lr V
  have hf : d ≤ R.frames := C.2.2.2.2.2.2.2.2.2.2.1
  have hlo : 40 * d ≤ R.locals := C.2.2.2.2.2.2.2.2.2.2.2.1
  have h21 := hM.2.2.2.2.2
  refine zcall (P2 := P2) (mc := k2) (ms := ks2) (rest := rest.map (zv_tr (zr fz N0))) (zrun_of (va_runU (As := [zv_tr (zr fz N0) a1, zv_tr (zr fz N0) a2, zv_tr (zr fz N0) a3, zv_tr (zr fz N0) a4, zv_tr (zr fz N0) a5, zv_tr (zr fz N0) a6, zv_tr (zr fz N0) a7]) ⟨C.1, C.2.1, C.2.2.2.1, C.own, C.hts⟩ (zmet0 (pw_met l C.2.2.2.2.2.2.2.2.2.1 D fz N0 hM.1 hM.2.1 hh hm hls hc) hnx) (va_cwU 7 C.hts hG rfl rfl rfl hx ho ⟨(by show d2 + 1 ≤ _; omega), (by show 8 + (_ + 11) + 40 * d2 ≤ _; omega)⟩) ⟨zPc_blind, zrecv C V.1 hs hcf, fun U hU hW => ⟨rfl, by rw [hU]; exact V.1, C.env.moved (by rw [hU]; exact V.2.1) hW⟩⟩ rfl rfl V.2.2.1.1 rfl (by show 2 * 0 + _ ≤ 8; rw [zcat_sum]; omega) dd ⟨(by have := V.2.2.2.1; omega), (by have := V.2.2.2.2; omega)⟩)) V.2.1 (fun v g1 n1 H1 locs1 hp hR hS => by
    have h9 := kk v g1 n1 hp p l e R s m args below meth c D fz N0 C H1 locs1 (cells + k2) (slots + ks2) lr ⟨hR, hS, V.2.2.1, by have := V.2.2.2.1; omega, by have := V.2.2.2.2; omega⟩
    rw [List.map_append] at h9
    rw [show (v.toList.map (zv_tr (zr fz N0))) = (v.map (zv_tr (zr fz N0))).toList from by cases v <;> rfl] at h9
    exact h9) (fun E a g1 n1 ce H1 locs1 hp hR hS h1 h2 h3 h4 => absurd hp (hnx _ _ _ _))
theorem pw_callVN7 {a1 a2 a3 a4 a5 a6 a7 : Value} (hM : zM Y2 7) (hh : Y2.2.2.2.2.2 = []) {host : String} (hl : Cond.methodLinkNest Y.2.1 idx Y2.1 host ∈ lw_tbl) (hG : GoodIn lw_all (ws_ Y2.1 Y2.2.2.1 Y2.2.2.2.1 Y2.2.2.2.2.1)) (hini : Cond.initialized Y2.1.cls ∈ lw_all) (hin : Cond.instanceMethod Y2.1 ∈ lw_all) (hse : Cond.selects C9 Y2.1 Y2.1 ∈ lw_all) (hs : zsh g b = some (.inl ci)) (hcf : zCF C9 T9 N9 ci ty0) (hc : PW Y2 d2 P2 k2 ks2 0 ls0 [] g n) (hd : d2 + 1 ≤ d) (hbc : bc1 + k2 ≤ bc) (hbs : bs1 + ks2 ≤ bs) (hls : lv_args 0 (.ref b :: [a1, a2, a3, a4, a5, a6, a7]) = ls0) (hm : (lg_sl (.ref b :: [a1, a2, a3, a4, a5, a6, a7])).length ≤ Y2.2.2.2.1) (hst : (rest.map fun v => v.category).sum ≤ 8) (dd : decode Y.2.2.1 pc = .ok (.invokevirtual idx, 3)) (hnx : ∀ E a g1 n1, ¬ P2 (.inr (E, a)) g1 n1) (kk : ∀ v g1 n1, P2 (.inl v) g1 n1 → PW Y d P bc1 bs1 (pc + 3) ls (v.toList ++ rest) g1 n1)  : PW Y d P bc bs pc ls (a7 :: a6 :: a5 :: a4 :: a3 :: a2 :: a1 :: .ref b :: rest) g n := by
  intro p l e R s m args below meth c D fz N0 C H locs cells slots lr V
  have hf : d ≤ R.frames := C.2.2.2.2.2.2.2.2.2.2.1
  have hlo : 40 * d ≤ R.locals := C.2.2.2.2.2.2.2.2.2.2.2.1
  have h21 := hM.2.2.2.2.2
  refine zcall (P2 := P2) (mc := k2) (ms := ks2) (rest := rest.map (zv_tr (zr fz N0))) (zrun_of (va_runVN (As := [zv_tr (zr fz N0) a1, zv_tr (zr fz N0) a2, zv_tr (zr fz N0) a3, zv_tr (zr fz N0) a4, zv_tr (zr fz N0) a5, zv_tr (zr fz N0) a6, zv_tr (zr fz N0) a7]) ⟨C.1, C.2.1, C.2.2.2.1, C.own, C.hts⟩ (zmet0 (pw_met l C.2.2.2.2.2.2.2.2.2.1 D fz N0 hM.1 hM.2.1 hh hm hls hc) hnx) ⟨va_cnB 7 C.hts hG rfl rfl rfl (C.env.2.2.2.2.1 _ hl rfl) (C.hts _ hini) ⟨hM.2.2.1, hM.2.2.2.1, hM.2.2.2.2.1⟩ ⟨(by show d2 + 1 ≤ _; omega), (by show 8 + (_ + 11) + 40 * d2 ≤ _; omega)⟩, C.hts _ hin, C.hts _ hse⟩ ⟨zPc_blind, zrecv C V.1 hs hcf, fun U hU hW => ⟨rfl, by rw [hU]; exact V.1, C.env.moved (by rw [hU]; exact V.2.1) hW⟩⟩ rfl rfl V.2.2.1.1 rfl (by show 2 * 0 + _ ≤ 8; rw [zcat_sum]; omega) dd ⟨(by have := V.2.2.2.1; omega), (by have := V.2.2.2.2; omega)⟩)) V.2.1 (fun v g1 n1 H1 locs1 hp hR hS => by
    have h9 := kk v g1 n1 hp p l e R s m args below meth c D fz N0 C H1 locs1 (cells + k2) (slots + ks2) lr ⟨hR, hS, V.2.2.1, by have := V.2.2.2.1; omega, by have := V.2.2.2.2; omega⟩
    rw [List.map_append] at h9
    rw [show (v.toList.map (zv_tr (zr fz N0))) = (v.map (zv_tr (zr fz N0))).toList from by cases v <;> rfl] at h9
    exact h9) (fun E a g1 n1 ce H1 locs1 hp hR hS h1 h2 h3 h4 => absurd hp (hnx _ _ _ _))
theorem pw_callS7 {a1 a2 a3 a4 a5 a6 a7 : Value} (hM : zM Y2 7) (hh : Y2.2.2.2.2.2 = []) (hG : GoodIn lw_all (va_wsS Y.2.1 idx Y2.1 (ws_ Y2.1 Y2.2.2.1 Y2.2.2.2.1 Y2.2.2.2.2.1))) (hc : PW Y2 d2 P2 k2 ks2 0 ls0 [] g n) (hd : d2 + 1 ≤ d) (hbc : bc1 + k2 ≤ bc) (hbs : bs1 + ks2 ≤ bs) (hls : lv_args 0 [a1, a2, a3, a4, a5, a6, a7] = ls0) (hm : (lg_sl [a1, a2, a3, a4, a5, a6, a7]).length ≤ Y2.2.2.2.1) (hst : (rest.map fun v => v.category).sum ≤ 8) (dd : decode Y.2.2.1 pc = .ok (.invokestatic idx, 3)) (hnx : ∀ E a g1 n1, ¬ P2 (.inr (E, a)) g1 n1) (kk : ∀ v g1 n1, P2 (.inl v) g1 n1 → PW Y d P bc1 bs1 (pc + 3) ls (v.toList ++ rest) g1 n1)  : PW Y d P bc bs pc ls (a7 :: a6 :: a5 :: a4 :: a3 :: a2 :: a1 :: rest) g n := by
  intro p l e R s m args below meth c D fz N0 C H locs cells slots lr V
  have hf : d ≤ R.frames := C.2.2.2.2.2.2.2.2.2.2.1
  have hlo : 40 * d ≤ R.locals := C.2.2.2.2.2.2.2.2.2.2.2.1
  have h21 := hM.2.2.2.2.2
  refine zcall (P2 := P2) (mc := k2) (ms := ks2) (rest := rest.map (zv_tr (zr fz N0))) (zrun_of (va_runS (As := [zv_tr (zr fz N0) a1, zv_tr (zr fz N0) a2, zv_tr (zr fz N0) a3, zv_tr (zr fz N0) a4, zv_tr (zr fz N0) a5, zv_tr (zr fz N0) a6, zv_tr (zr fz N0) a7]) ⟨C.1, C.2.1, C.2.2.2.1, C.own, C.hts⟩ (zmet0 (pw_met l C.2.2.2.2.2.2.2.2.2.1 D fz N0 hM.1 hM.2.1 hh hm hls hc) hnx) (va_cwS 7 C.hts hG rfl rfl rfl ⟨hM.2.2.1, hM.2.2.2.1, hM.2.2.2.2.1⟩ ⟨(by show d2 + 1 ≤ _; omega), (by show 8 + (_ + 11) + 40 * d2 ≤ _; omega)⟩) ⟨zPc_blind, fun U hU hW => ⟨rfl, by rw [hU]; exact V.1, C.env.moved (by rw [hU]; exact V.2.1) hW⟩⟩ rfl rfl V.2.2.1.1 rfl (by show 2 * 0 + _ ≤ 8; rw [zcat_sum]; omega) dd ⟨(by have := V.2.2.2.1; omega), (by have := V.2.2.2.2; omega)⟩)) V.2.1 (fun v g1 n1 H1 locs1 hp hR hS => by
    have h9 := kk v g1 n1 hp p l e R s m args below meth c D fz N0 C H1 locs1 (cells + k2) (slots + ks2) lr ⟨hR, hS, V.2.2.1, by have := V.2.2.2.1; omega, by have := V.2.2.2.2; omega⟩
    rw [List.map_append] at h9
    rw [show (v.toList.map (zv_tr (zr fz N0))) = (v.map (zv_tr (zr fz N0))).toList from by cases v <;> rfl] at h9
    exact h9) (fun E a g1 n1 ce H1 locs1 hp hR hS h1 h2 h3 h4 => absurd hp (hnx _ _ _ _))
theorem pw_callI7 {a1 a2 a3 a4 a5 a6 a7 : Value} (hM : zM Y2 7) (hh : Y2.2.2.2.2.2 = []) (hret : Y2.2.2.2.2.1 = none) (hy1 : Y2.1.name = "<init>") (hG : GoodIn lw_all (ws_ Y2.1 Y2.2.2.1 Y2.2.2.2.1 none)) (hini : Cond.initialized Y2.1.cls ∈ lw_all) (hl : Cond.methodLink Y.2.1 idx Y2.1 ∈ lw_all) (hin : Cond.instanceMethod Y2.1 ∈ lw_all) (hc : PW Y2 d2 P2 k2 ks2 0 ls0 [] g n) (hd : d2 + 1 ≤ d) (hbc : bc1 + k2 ≤ bc) (hbs : bs1 + ks2 ≤ bs) (hls : lv_args 0 (.ref b :: [a1, a2, a3, a4, a5, a6, a7]) = ls0) (hm : (lg_sl (.ref b :: [a1, a2, a3, a4, a5, a6, a7])).length ≤ Y2.2.2.2.1) (hst : (rest.map fun v => v.category).sum ≤ 8) (dd : decode Y.2.2.1 pc = .ok (.invokespecial idx, 3)) (hnx : ∀ E a g1 n1, ¬ P2 (.inr (E, a)) g1 n1) (kk : ∀ v g1 n1, P2 (.inl v) g1 n1 → PW Y d P bc1 bs1 (pc + 3) ls (v.toList ++ rest) g1 n1) : PW Y d P bc bs pc ls (a7 :: a6 :: a5 :: a4 :: a3 :: a2 :: a1 :: .ref b :: rest) g n := by
  intro p l e R s m args below meth c D fz N0 C H locs cells slots lr V
  have hf : d ≤ R.frames := C.2.2.2.2.2.2.2.2.2.2.1
  have hlo : 40 * d ≤ R.locals := C.2.2.2.2.2.2.2.2.2.2.2.1
  have h21 := hM.2.2.2.2.2
  have hmet := zmet0 (pw_met l C.2.2.2.2.2.2.2.2.2.1 D fz N0 hM.1 hM.2.1 hh hm hls hc) hnx
  rw [hret] at hmet
  refine zcall (P2 := P2) (mc := k2) (ms := ks2) (rest := rest.map (zv_tr (zr fz N0))) (zrun_of (va_runI (As := [zv_tr (zr fz N0) a1, zv_tr (zr fz N0) a2, zv_tr (zr fz N0) a3, zv_tr (zr fz N0) a4, zv_tr (zr fz N0) a5, zv_tr (zr fz N0) a6, zv_tr (zr fz N0) a7]) ⟨C.1, C.2.1, C.2.2.2.1, C.own, C.hts⟩ hmet (cwI 7 C.hts hG rfl rfl rfl (C.hts _ hini) (C.hts _ hl) (C.hts _ hin) hy1 ⟨hM.2.2.1, hM.2.2.2.1, hM.2.2.2.2.1⟩ ⟨(by show d2 + 1 ≤ _; omega), (by show 8 + (_ + 11) + 40 * d2 ≤ _; omega)⟩) ⟨zPc_blind, fun U hU hW => ⟨rfl, by rw [hU]; exact V.1, C.env.moved (by rw [hU]; exact V.2.1) hW⟩⟩ rfl rfl V.2.2.1.1 rfl (by show 2 * 0 + _ ≤ 8; rw [zcat_sum]; omega) dd ⟨(by have := V.2.2.2.1; omega), (by have := V.2.2.2.2; omega)⟩)) V.2.1 (fun v g1 n1 H1 locs1 hp hR hS => by
    have h9 := kk v g1 n1 hp p l e R s m args below meth c D fz N0 C H1 locs1 (cells + k2) (slots + ks2) lr ⟨hR, hS, V.2.2.1, by have := V.2.2.2.1; omega, by have := V.2.2.2.2; omega⟩
    rw [List.map_append] at h9
    rw [show (v.toList.map (zv_tr (zr fz N0))) = (v.map (zv_tr (zr fz N0))).toList from by cases v <;> rfl] at h9
    exact h9) (fun E a g1 n1 ce H1 locs1 hp hR hS h1 h2 h3 h4 => absurd hp (hnx _ _ _ _))
theorem pw_callIN7 {a1 a2 a3 a4 a5 a6 a7 : Value} (hM : zM Y2 7) (hh : Y2.2.2.2.2.2 = []) (hret : Y2.2.2.2.2.1 = none) (hy1 : Y2.1.name = "<init>") {host : String} (hl : Cond.methodLinkNest Y.2.1 idx Y2.1 host ∈ lw_tbl) (hG : GoodIn lw_all (ws_ Y2.1 Y2.2.2.1 Y2.2.2.2.1 none)) (hini : Cond.initialized Y2.1.cls ∈ lw_all) (hin : Cond.instanceMethod Y2.1 ∈ lw_all) (hc : PW Y2 d2 P2 k2 ks2 0 ls0 [] g n) (hd : d2 + 1 ≤ d) (hbc : bc1 + k2 ≤ bc) (hbs : bs1 + ks2 ≤ bs) (hls : lv_args 0 (.ref b :: [a1, a2, a3, a4, a5, a6, a7]) = ls0) (hm : (lg_sl (.ref b :: [a1, a2, a3, a4, a5, a6, a7])).length ≤ Y2.2.2.2.1) (hst : (rest.map fun v => v.category).sum ≤ 8) (dd : decode Y.2.2.1 pc = .ok (.invokespecial idx, 3)) (hnx : ∀ E a g1 n1, ¬ P2 (.inr (E, a)) g1 n1) (kk : ∀ v g1 n1, P2 (.inl v) g1 n1 → PW Y d P bc1 bs1 (pc + 3) ls (v.toList ++ rest) g1 n1) : PW Y d P bc bs pc ls (a7 :: a6 :: a5 :: a4 :: a3 :: a2 :: a1 :: .ref b :: rest) g n := by
  intro p l e R s m args below meth c D fz N0 C H locs cells slots lr V
  have hf : d ≤ R.frames := C.2.2.2.2.2.2.2.2.2.2.1
  have hlo : 40 * d ≤ R.locals := C.2.2.2.2.2.2.2.2.2.2.2.1
  have h21 := hM.2.2.2.2.2
  have hmet := zmet0 (pw_met l C.2.2.2.2.2.2.2.2.2.1 D fz N0 hM.1 hM.2.1 hh hm hls hc) hnx
  rw [hret] at hmet
  refine zcall (P2 := P2) (mc := k2) (ms := ks2) (rest := rest.map (zv_tr (zr fz N0))) (zrun_of (va_runIN (As := [zv_tr (zr fz N0) a1, zv_tr (zr fz N0) a2, zv_tr (zr fz N0) a3, zv_tr (zr fz N0) a4, zv_tr (zr fz N0) a5, zv_tr (zr fz N0) a6, zv_tr (zr fz N0) a7]) ⟨C.1, C.2.1, C.2.2.2.1, C.own, C.hts⟩ hmet ⟨va_cnB 7 C.hts hG rfl rfl rfl (C.env.2.2.2.2.1 _ hl rfl) (C.hts _ hini) ⟨hM.2.2.1, hM.2.2.2.1, hM.2.2.2.2.1⟩ ⟨(by show d2 + 1 ≤ _; omega), (by show 8 + (_ + 11) + 40 * d2 ≤ _; omega)⟩, hy1, C.hts _ hin⟩ ⟨zPc_blind, fun U hU hW => ⟨rfl, by rw [hU]; exact V.1, C.env.moved (by rw [hU]; exact V.2.1) hW⟩⟩ rfl rfl V.2.2.1.1 rfl (by show 2 * 0 + _ ≤ 8; rw [zcat_sum]; omega) dd ⟨(by have := V.2.2.2.1; omega), (by have := V.2.2.2.2; omega)⟩)) V.2.1 (fun v g1 n1 H1 locs1 hp hR hS => by
    have h9 := kk v g1 n1 hp p l e R s m args below meth c D fz N0 C H1 locs1 (cells + k2) (slots + ks2) lr ⟨hR, hS, V.2.2.1, by have := V.2.2.2.1; omega, by have := V.2.2.2.2; omega⟩
    rw [List.map_append] at h9
    rw [show (v.toList.map (zv_tr (zr fz N0))) = (v.map (zv_tr (zr fz N0))).toList from by cases v <;> rfl] at h9
    exact h9) (fun E a g1 n1 ce H1 locs1 hp hR hS h1 h2 h3 h4 => absurd hp (hnx _ _ _ _))
end PWC
section PWX
variable {Y : zY} {d : Nat} {P : zP} {bc bs pc : Nat} {ls : List (Nat × Value)} {st : List Value} {g : zg_G} {n : zg_N} {E : String} {a : Nat}
theorem px_out (hh : Y.2.2.2.2.2 = []) (hp : P (.inr (E, a)) g n) : PX Y d P bc bs pc ls E a g n := by
  intro p l e R s m args below meth c D fz N0 C H locs cells slots lr V ce rest hce hcv hcl ha
  refine vx_out (by have h9 := C.2.2.2.2.2.2.2.2.1; rw [hh] at h9; rw [h9]; intro x hx; cases hx) C.2.2.2.2.2.2.1 hce hcv hcl (fun t ht hW => ⟨a, g, n, rfl, ha, hp, by rw [ht]; exact V.1, V.2.1.F ht⟩) V.2.1.2.2 (by have := V.2.2.2.1; omega) (by have := V.2.2.2.2; omega)
theorem pw_athrow {x : Nat} {ci : Nat} {C9 : String} {T9 : u_T} {N9 : Nat} {ty0 : Nat → FieldType} (hs : zsh g x = some (.inl ci)) (hx : zK ≤ x) (hcf : zCF C9 T9 N9 ci ty0) (dd : decode Y.2.2.1 pc = .ok (.athrow, 1)) (k : PX Y d P bc bs pc ls C9 x g n) : PW Y d P bc bs pc ls (.ref x :: st) g n := by
  intro p l e R s m args below meth c D fz N0 C H locs cells slots lr V
  obtain ⟨cell, q1, q2, q3, q4, q5, q6⟩ := (V.1.2.2.2.1 x).obj hs hcf
  exact vx_athrow C.1 C.2.1 dd (k p l e R s m args below meth c D fz N0 C H locs cells slots lr V cell _ q1 (q3 hx) (by rw [q2]; exact (C.env.K.1 ci _ hcf.1).2.1) hx)
end PWX
