/-! ===== PURE HEAPS: what the machine's heap holds of ours, by addresses that are numbers of our own ===== -/
/-- geometry: shapes (object of class / array of kind and length), reference fields, reference arrays, the next address -/
abbrev zg_G : Type := (Nat → Option (Nat ⊕ (Nat × Nat))) × (Nat → Nat → Option Nat) × (Nat → Nat → Option Nat) × Nat
/-- numbers: int fields, long fields, int (byte, boolean) arrays, long arrays -/
abbrev zg_N : Type := (Nat → Nat → Int32) × (Nat → Nat → Int64) × (Nat → Nat → Int32) × (Nat → Nat → Int64)
def zsh (g : zg_G) (a : Nat) : Option (Nat ⊕ (Nat × Nat)) := g.1 a
def zfr (g : zg_G) (a k : Nat) : Option Nat := g.2.1 a k
def zar (g : zg_G) (a k : Nat) : Option Nat := g.2.2.1 a k
def znx (g : zg_G) : Nat := g.2.2.2
def zfi (n : zg_N) (a k : Nat) : Int32 := n.1 a k
def zfl (n : zg_N) (a k : Nat) : Int64 := n.2.1 a k
def zai (n : zg_N) (a k : Nat) : Int32 := n.2.2.1 a k
def zal (n : zg_N) (a k : Nat) : Int64 := n.2.2.2 a k
def zu1 {α : Type} (f : Nat → α) (a : Nat) (v : α) : Nat → α := fun b => if b = a then v else f b
def zu2 {α : Type} (f : Nat → Nat → α) (a k : Nat) (v : α) : Nat → Nat → α := fun b j => if b = a ∧ j = k then v else f b j
def zpfi (n : zg_N) (a k : Nat) (v : Int32) : zg_N := (zu2 n.1 a k v, n.2.1, n.2.2.1, n.2.2.2)
def zpfl (n : zg_N) (a k : Nat) (v : Int64) : zg_N := (n.1, zu2 n.2.1 a k v, n.2.2.1, n.2.2.2)
def zpai (n : zg_N) (a k : Nat) (v : Int32) : zg_N := (n.1, n.2.1, zu2 n.2.2.1 a k v, n.2.2.2)
def zpal (n : zg_N) (a k : Nat) (v : Int64) : zg_N := (n.1, n.2.1, n.2.2.1, zu2 n.2.2.2 a k v)
def zpfr (g : zg_G) (a k : Nat) (v : Option Nat) : zg_G := (g.1, zu2 g.2.1 a k v, g.2.2.1, g.2.2.2)
def zpar (g : zg_G) (a k : Nat) (v : Option Nat) : zg_G := (g.1, g.2.1, zu2 g.2.2.1 a k v, g.2.2.2)
/-- a new cell at the next address: its shape; all its places empty -/
def znwG (g : zg_G) (s : Nat ⊕ (Nat × Nat)) : zg_G := (zu1 g.1 g.2.2.2 (some s), zu1 g.2.1 g.2.2.2 (fun _ => none), zu1 g.2.2.1 g.2.2.2 (fun _ => none), g.2.2.2 + 1)
def znwN (n : zg_N) (a : Nat) : zg_N := (zu1 n.1 a (fun _ => 0), zu1 n.2.1 a (fun _ => 0), zu1 n.2.2.1 a (fun _ => 0), zu1 n.2.2.2 a (fun _ => 0))
/-- the next address further on: cells in between that we know nothing of -/
def zgap (g : zg_G) (x : Nat) : zg_G := (g.1, g.2.1, g.2.2.1, x)
/-! the real values -/
def zv_tr (ρ : Nat → Nat) (v : Value) : Value := match v with
  | .ref a => .ref (ρ a)
  | .int x => .int x
  | .long x => .long x
  | .float x => .float x
  | .double x => .double x
  | .null => .null
  | .retAddr x => .retAddr x
theorem zv_cat (ρ : Nat → Nat) (v : Value) : (zv_tr ρ v).category = v.category := by cases v <;> rfl
abbrev zK : Nat := 1000
def zr (fz : Nat → Nat) (N0 a : Nat) : Nat := if a < zK then fz a else N0 + (a - zK)
theorem zr_hi {fz : Nat → Nat} {N0 a : Nat} (h : zK ≤ a) : zr fz N0 a = N0 + (a - zK) := if_neg (by omega)
theorem zr_lo {fz : Nat → Nat} {N0 a : Nat} (h : a < zK) : zr fz N0 a = fz a := if_pos h
theorem zr_ge {fz : Nat → Nat} {N0 a : Nat} (h : zK ≤ a) : N0 ≤ zr fz N0 a := by rw [zr_hi h]; omega
/-- an owned address is no other's -/
theorem zr_ne {fz : Nat → Nat} {N0 a b : Nat} (hf : ∀ a, a < zK → fz a < N0) (ha : zK ≤ a) (h : b ≠ a) : zr fz N0 b ≠ zr fz N0 a := by
  rw [zr_hi ha]
  by_cases hb : b < zK
  · rw [zr_lo hb]; have := hf b hb; omega
  · rw [zr_hi (by omega)]; omega
abbrev zD : Type := va_G × (Nat → ClassId)
def zty (ci k : Nat) : FieldType := match zCt[ci]? with
  | some f => f k
  | none => .int
def zfv (ρ : Nat → Nat) (g : zg_G) (n : zg_N) (ty : FieldType) (a k : Nat) : Value := match ty with
  | .long => .long (zfl n a k)
  | .object _ => va_rf ((zfr g a k).map ρ)
  | .array _ => va_rf ((zfr g a k).map ρ)
  | _ => .int (zfi n a k)
def zev (ρ : Nat → Nat) (g : zg_G) (n : zg_N) (ty : FieldType) (a j : Nat) : Value := match ty with
  | .long => .long (zal n a j)
  | .object _ => va_rf ((zar g a j).map ρ)
  | .array _ => va_rf ((zar g a j).map ρ)
  | _ => .int (zai n a j)
/-- an object: of class cC, its fields' values; one of ours (own) is plain -/
def zOB (own : Prop) (o : Nat) (cC : ClassId) (N : Nat) (iS : Nat → Nat) (H : Heap) (V : Nat → Value) : Prop :=
  ∃ cell : Cell, H[o]? = some cell ∧ cell.cls = cC ∧ (own → cell.vm = .none) ∧ cell.vm.isStatics = false ∧ cell.vm ≠ .unknown ∧ ∀ k, k < N → cell.slots[iS k]? = some (V k)
/-- an array of len places -/
def zAR (own : Prop) (o : Nat) (cA : ClassId) (len : Nat) (H : Heap) (f : Nat → Value) : Prop :=
  ∃ cell : Cell, H[o]? = some cell ∧ (own → cell = arrV cA len f) ∧ cell.cls = cA ∧ cell.vm.isStatics = false ∧ cell.vm ≠ .unknown ∧ cell.slots.size = len ∧ ∀ j, j < len → cell.slots[j]? = some (f j)
def zAt (D : zD) (ρ : Nat → Nat) (g : zg_G) (n : zg_N) (a : Nat) (H : Heap) : Prop := match zsh g a with
  | none => True
  | some (.inl ci) => ∃ r : vw_C, zCl[ci]? = some r ∧ zOB (zK ≤ a) (ρ a) (D.1.1 ci) r.2.2 (D.1.2 ci) H (fun k => zfv ρ g n (zty ci k) a k)
  | some (.inr (kd, len)) => ∃ ty : FieldType, zAk[kd]? = some ty ∧ zAR (zK ≤ a) (ρ a) (D.2 kd) len H (fun j => zev ρ g n ty a j)
/-- what lies below: nothing of it is ever written -/
def zFz (g : zg_G) (n : zg_N) : Prop := ∀ a, 1 ≤ a → a < zK → zsh g a = zF_sh a ∧ (∀ k, zfr g a k = zF_fr a k) ∧ (∀ k, zar g a k = zF_ar a k) ∧ (∀ k, zfi n a k = zF_fi a k) ∧ ∀ k, zai n a k = zF_ai a k
def zR (D : zD) (fz : Nat → Nat) (N0 : Nat) (g : zg_G) (n : zg_N) (H : Heap) : Prop :=
  zK ≤ znx g ∧ H.size = N0 + (znx g - zK) ∧ (∀ a, zsh g a ≠ none → a < znx g) ∧ (∀ a, zAt D (zr fz N0) g n a H) ∧ zFz g n
def zMv : Cond → Bool
  | .castable _ _ => true
  | .declares _ => true
  | .fieldLinkNest _ _ _ _ _ _ => true
  | .methodLinkNest _ _ _ _ => true
  | _ => false
/-- thrown, but not of the class that a handler names -/
abbrev zNcs : List (String × String) := [("java/lang/IllegalArgumentException", "java/lang/IndexOutOfBoundsException"), ("java/lang/IllegalStateException", "java/lang/IllegalArgumentException"), ("java/lang/IllegalStateException", "java/lang/IndexOutOfBoundsException")]
/-- the statics and constants -/
def zSta (fz : Nat → Nat) (N0 : Nat) (s : State) : Prop :=
  (∀ q ∈ zStl, va_Z q.1 q.2.1 q.2.2.1 (zv_tr (zr fz N0) q.2.2.2) (fun a => N0 ≤ a) s s.heap) ∧ (∀ q ∈ zStr, vk_R q.1 q.2.1 q.2.2.1 (fz q.2.2.2) s) ∧
  vx_Zq Bundle.tN "UNASSIGNED_STACK" Bundle.steD (fun a => N0 ≤ a) s s.heap ∧ vx_Zq Bundle.tN "SUPPRESSED_SENTINEL" Bundle.listD (fun a => N0 ≤ a) s s.heap ∧ va_Mi "[Ljava/lang/Object;" (fz 66) s ∧ ∀ q ∈ zNcs, va_Nc q.1 q.2 s
def zEnv (D : zD) (fz : Nat → Nat) (N0 : Nat) (s : State) : Prop :=
  (va_K D.1 zCl [] s ∧ ∀ (kd : Nat) (ty : FieldType), zAk[kd]? = some ty → ArrOfT s (D.2 kd) ty ∧ (kd < 7 → va_RA s (D.2 kd) ty)) ∧ N0 ≤ s.heap.size ∧ (∀ a, a < zK → fz a < N0) ∧ zSta fz N0 s ∧ (∀ w ∈ lw_tbl, zMv w = true → va_Nw w s) ∧ (∀ C ∈ zAov, va_AO C s)
/-- name, own class, bytes, locals, answer, handlers -/
abbrev zY : Type := MethodName × String × ByteArray × Nat × Option FieldType × List (Nat × Nat × Nat × Nat)
/-- ends: the outcome (a value, or the thrown one's class and address), the heap -/
abbrev zP : Type := (Option Value ⊕ (String × Nat)) → zg_G → zg_N → Prop
def zQc (D : zD) (fz : Nat → Nat) (N0 : Nat) (P : zP) : Array Value → State → Outcome → State → Prop := fun _ st o t =>
  ∃ (v : Option Value) (g : zg_G) (n : zg_N), o = .returned (v.map (zv_tr (zr fz N0))) ∧ P (.inl v) g n ∧ zR D fz N0 g n t.heap ∧ va_F (fun a => N0 ≤ a) st t
def zXC (D : zD) (fz : Nat → Nat) (N0 : Nat) (P : zP) : String → Addr → State → State → Prop := fun E q st t =>
  ∃ (a : Nat) (g : zg_G) (n : zg_N), q = zr fz N0 a ∧ zK ≤ a ∧ P (.inr (E, a)) g n ∧ zR D fz N0 g n t.heap ∧ va_F (fun a => N0 ≤ a) st t
def zC (Y : zY) (d : Nat) (p : Program) (l : Launch) (R : Room) (s : State) (m : MethodId) (args : Array Value) (meth : Method) (c : Code) (D : zD) (fz : Nat → Nat) (N0 : Nat) : Prop :=
  p.tables.exec = Jvm.exec ∧ c.code = Y.2.2.1 ∧ meth.sig.returnType = Y.2.2.2.2.1 ∧ c.maxLocals = Y.2.2.2.1 ∧ (∀ w ∈ lw_all, w.before args s = true) ∧ s.vm.findClass Y.2.1 = some m.cls ∧
  meth.locks = false ∧ meth.name = Y.1.name ∧ c.exceptionTable.toList = tableOf Y.2.2.2.2.2 ∧ l.stackTraces = false ∧ d ≤ R.frames ∧ 40 * d ≤ R.locals ∧ zEnv D fz N0 s
def zV (Y : zY) (R : Room) (s : State) (D : zD) (fz : Nat → Nat) (N0 bc bs : Nat) (ls : List (Nat × Value)) (g : zg_G) (n : zg_N) (H : Heap) (locs : List Loc) (cells slots : Nat) (lr : Array Slot) : Prop :=
  zR D fz N0 g n H ∧ va_S (fun a => N0 ≤ a) s.heap H locs ∧ lv_has lr Y.2.2.2.1 (ls.map fun q => (q.1, zv_tr (zr fz N0) q.2)) ∧ cells + bc ≤ R.cells ∧ slots + bs ≤ R.slots
abbrev zMQ (below : List Frame) (D : zD) (fz : Nat → Nat) (N0 : Nat) (P : zP) (args : Array Value) (s : State) (R : Room) : State → Prop :=
  vx_MQ below (zQc D fz N0 P) (zXC D fz N0 P) args s R.cells R.slots (fun a => N0 ≤ a)
/-- from the frame (pc, ls, st) of method Y over the pure heap (g, n): the method ends as P says, with depth d, bc cells, bs slots at most -/
def PW (Y : zY) (d : Nat) (P : zP) (bc bs pc : Nat) (ls : List (Nat × Value)) (st : List Value) (g : zg_G) (n : zg_N) : Prop :=
  ∀ (p : Program) (l : Launch) (e : Env) (R : Room) (s : State) (m : MethodId) (args : Array Value) (below : List Frame) (meth : Method) (c : Code) (D : zD) (fz : Nat → Nat) (N0 : Nat),
    zC Y d p l R s m args meth c D fz N0 → ∀ (H : Heap) (locs : List Loc) (cells slots : Nat) (lr : Array Slot), zV Y R s D fz N0 bc bs ls g n H locs cells slots lr →
    W p l e R s m args below meth c H locs cells slots (zMQ below D fz N0 P args s R) (F0 m pc lr (st.map (zv_tr (zr fz N0))))
/-- the same frame with the object at a, of class E, thrown over it -/
def PX (Y : zY) (d : Nat) (P : zP) (bc bs pc : Nat) (ls : List (Nat × Value)) (E : String) (a : Nat) (g : zg_G) (n : zg_N) : Prop :=
  ∀ (p : Program) (l : Launch) (e : Env) (R : Room) (s : State) (m : MethodId) (args : Array Value) (below : List Frame) (meth : Method) (c : Code) (D : zD) (fz : Nat → Nat) (N0 : Nat),
    zC Y d p l R s m args meth c D fz N0 → ∀ (H : Heap) (locs : List Loc) (cells slots : Nat) (lr : Array Slot), zV Y R s D fz N0 bc bs ls g n H locs cells slots lr →
    ∀ (ce : Cell) (rest : List Value), H[zr fz N0 a]? = some ce → ce.vm = .none → s.vm.findClass E = some ce.cls → zK ≤ a →
    vx_W p l e R s m args below meth c H locs cells slots (zMQ below D fz N0 P args s R) (F0 m pc lr rest) (zr fz N0 a)
/-! ===== the pure heap behind a write, behind a new cell ===== -/
theorem zu2_s {α : Type} {f : Nat → Nat → α} {a k : Nat} {v : α} : zu2 f a k v a k = v := if_pos ⟨rfl, rfl⟩
theorem zu2_n {α : Type} {f : Nat → Nat → α} {a k b j : Nat} {v : α} (h : b ≠ a ∨ j ≠ k) : zu2 f a k v b j = f b j := if_neg (fun q => h.elim (fun z => z q.1) (fun z => z q.2))
theorem zu2_b {α : Type} {f : Nat → Nat → α} {a k b j : Nat} {v : α} (h : b ≠ a) : zu2 f a k v b j = f b j := if_neg (fun q => h q.1)
theorem zu1_s {α : Type} {f : Nat → α} {a : Nat} {v : α} : zu1 f a v a = v := if_pos rfl
theorem zu1_n {α : Type} {f : Nat → α} {a b : Nat} {v : α} (h : b ≠ a) : zu1 f a v b = f b := if_neg h
theorem zAt.kept {D : zD} {ρ : Nat → Nat} {g : zg_G} {n : zg_N} {a : Nat} {H H1 : Heap} (h : zAt D ρ g n a H) (hq : H1[ρ a]? = H[ρ a]?) : zAt D ρ g n a H1 := by
  unfold zAt at h ⊢
  split at h
  · trivial
  · next ci e =>
    obtain ⟨r, h1, cell, h2, h3⟩ := h
    exact ⟨r, h1, cell, hq.trans h2, h3⟩
  · next kd len e =>
    obtain ⟨ty, h1, cell, h2, h3⟩ := h
    exact ⟨ty, h1, cell, hq.trans h2, h3⟩
/-- two pure heaps say the same at b -/
def zSm (g : zg_G) (n : zg_N) (g' : zg_G) (n' : zg_N) (b : Nat) : Prop :=
  (∀ k, zfr g' b k = zfr g b k) ∧ (∀ k, zar g' b k = zar g b k) ∧ (∀ k, zfi n' b k = zfi n b k) ∧ (∀ k, zfl n' b k = zfl n b k) ∧ (∀ k, zai n' b k = zai n b k) ∧ ∀ k, zal n' b k = zal n b k
theorem zSm.rf (g : zg_G) (n : zg_N) (b : Nat) : zSm g n g n b := ⟨fun _ => rfl, fun _ => rfl, fun _ => rfl, fun _ => rfl, fun _ => rfl, fun _ => rfl⟩
theorem zfv_cong {ρ : Nat → Nat} {g g' : zg_G} {n n' : zg_N} {b : Nat} (h : zSm g n g' n' b) (ty : FieldType) (k : Nat) : zfv ρ g' n' ty b k = zfv ρ g n ty b k := by
  obtain ⟨h1, h2, h3, h4, h5, h6⟩ := h
  cases ty <;> simp only [zfv, h1, h3, h4]
theorem zev_cong {ρ : Nat → Nat} {g g' : zg_G} {n n' : zg_N} {b : Nat} (h : zSm g n g' n' b) (ty : FieldType) (k : Nat) : zev ρ g' n' ty b k = zev ρ g n ty b k := by
  obtain ⟨h1, h2, h3, h4, h5, h6⟩ := h
  cases ty <;> simp only [zev, h2, h5, h6]
theorem zAt.cong {D : zD} {ρ : Nat → Nat} {g g' : zg_G} {n n' : zg_N} {b : Nat} {H : Heap} (h : zAt D ρ g n b H) (hs : zsh g' b = zsh g b) (hm : zSm g n g' n' b) : zAt D ρ g' n' b H := by
  unfold zAt at h ⊢
  rw [hs]
  split at h
  · next e => trivial
  · next ci e =>
    obtain ⟨r, h1, cell, h2, h3, h4, h5, h6, h7⟩ := h
    exact ⟨r, h1, cell, h2, h3, h4, h5, h6, fun k hk => by rw [h7 k hk]; exact congrArg some (zfv_cong hm _ k).symm⟩
  · next kd len e =>
    obtain ⟨ty, h1, h2⟩ := h
    refine ⟨ty, h1, ?_⟩
    rw [show (fun j => zev ρ g' n' ty b j) = (fun j => zev ρ g n ty b j) from funext fun j => zev_cong hm ty j]
    exact h2
theorem zR.put {D : zD} {fz : Nat → Nat} {N0 : Nat} {g g' : zg_G} {n n' : zg_N} {H H1 : Heap} {a : Nat} (hR : zR D fz N0 g n H) (hf : ∀ a, a < zK → fz a < N0) (ha : zK ≤ a) (hs : ∀ b, zsh g' b = zsh g b) (hx : znx g' = znx g)
    (hm : ∀ b, b ≠ a → zSm g n g' n' b) (z : H1.size = H.size) (oq : ∀ q : Nat, q ≠ zr fz N0 a → H1[q]? = H[q]?) (hat : zAt D (zr fz N0) g' n' a H1) : zR D fz N0 g' n' H1 := by
  obtain ⟨r1, r2, r3, r4, r5⟩ := hR
  refine ⟨by rw [hx]; exact r1, by rw [z, hx]; exact r2, fun b hb => by rw [hx]; exact r3 b (by rw [← hs]; exact hb), fun b => ?_, fun b h1 hb => ?_⟩
  · by_cases h : b = a
    · subst h; exact hat
    · exact ((r4 b).cong (hs b) (hm b h)).kept (oq _ (zr_ne hf ha h))
  · have hne : b ≠ a := by omega
    obtain ⟨m1, m2, m3, m4, m5, m6⟩ := hm b hne
    obtain ⟨f1, f2, f3, f4, f5⟩ := r5 b h1 hb
    exact ⟨by rw [hs]; exact f1, fun k => by rw [m1]; exact f2 k, fun k => by rw [m2]; exact f3 k, fun k => by rw [m3]; exact f4 k, fun k => by rw [m5]; exact f5 k⟩
theorem zR.push {D : zD} {fz : Nat → Nat} {N0 : Nat} {g : zg_G} {n : zg_N} {H H1 : Heap} {sh : Nat ⊕ (Nat × Nat)} (hR : zR D fz N0 g n H) (hf : ∀ a, a < zK → fz a < N0) (z : H1.size = H.size + 1) (oq : ∀ q : Nat, q < H.size → H1[q]? = H[q]?)
    (hat : zAt D (zr fz N0) (znwG g sh) (znwN n (znx g)) (znx g) H1) : zR D fz N0 (znwG g sh) (znwN n (znx g)) H1 := by
  obtain ⟨r1, r2, r3, r4, r5⟩ := hR
  have hne : ∀ b, b ≠ znx g → zsh (znwG g sh) b = zsh g b ∧ zSm g n (znwG g sh) (znwN n (znx g)) b := fun b h => by
    have e : ∀ {α : Type} (f : Nat → α) (v : α), zu1 f (znx g) v b = f b := fun f v => zu1_n h
    refine ⟨e _ _, fun k => ?_, fun k => ?_, fun k => ?_, fun k => ?_, fun k => ?_, fun k => ?_⟩
    · exact congrFun (e g.2.1 _) k
    · exact congrFun (e g.2.2.1 _) k
    · exact congrFun (e n.1 _) k
    · exact congrFun (e n.2.1 _) k
    · exact congrFun (e n.2.2.1 _) k
    · exact congrFun (e n.2.2.2 _) k
  refine ⟨Nat.le_succ_of_le r1, ?_, fun b hb => ?_, fun b => ?_, fun b h9 hb => ?_⟩
  · have e : znx (znwG g sh) = znx g + 1 := rfl
    rw [e, z, r2]; omega
  · show b < znx g + 1
    by_cases h : b = znx g
    · omega
    · rw [(hne b h).1] at hb
      have := r3 b hb
      omega
  · by_cases h : b = znx g
    · subst h; exact hat
    · obtain ⟨h1, h2⟩ := hne b h
      by_cases hb : zsh g b = none
      · unfold zAt; rw [h1, hb]; trivial
      · have hlt := r3 b hb
        refine ((r4 b).cong h1 h2).kept (oq _ ?_)
        by_cases hk : b < zK
        · rw [zr_lo hk]; have := hf b hk; omega
        · rw [zr_hi (by omega)]; omega
  · have h : b ≠ znx g := by omega
    obtain ⟨h1, m1, m2, m3, m4, m5, m6⟩ := hne b h
    obtain ⟨f1, f2, f3, f4, f5⟩ := r5 b h9 hb
    exact ⟨by rw [h1]; exact f1, fun k => by rw [m1]; exact f2 k, fun k => by rw [m2]; exact f3 k, fun k => by rw [m3]; exact f4 k, fun k => by rw [m5]; exact f5 k⟩
/-- more cells, of which nothing is known -/
theorem zR.gap {D : zD} {fz : Nat → Nat} {N0 : Nat} {g : zg_G} {n : zg_N} {H H1 : Heap} (hR : zR D fz N0 g n H) (hf : ∀ a, a < zK → fz a < N0) (hN : N0 ≤ H.size) (z : H.size ≤ H1.size) (oq : ∀ q : Nat, q < H.size → H1[q]? = H[q]?) : zR D fz N0 (zgap g (zK + (H1.size - N0))) n H1 := by
  obtain ⟨r1, r2, r3, r4, r5⟩ := hR
  refine ⟨Nat.le_add_right _ _, ?_, fun b hb => ?_, fun b => ?_, r5⟩
  · show H1.size = N0 + (zK + (H1.size - N0) - zK); omega
  · show b < zK + (H1.size - N0)
    have := r3 b hb
    omega
  · show zAt D (zr fz N0) g n b H1
    by_cases hb : zsh g b = none
    · unfold zAt; rw [hb]; trivial
    · have hlt := r3 b hb
      refine (r4 b).kept (oq _ ?_)
      by_cases hk : b < zK
      · rw [zr_lo hk]; have := hf b hk; omega
      · rw [zr_hi (by omega)]; omega
theorem zS.put {N0 a k : Nat} {fz : Nat → Nat} {H0 H H1 : Heap} {locs : List Loc} (h : va_S (fun a => N0 ≤ a) H0 H locs) (z : H1.size = H.size) (oq : ∀ q : Nat, q ≠ zr fz N0 a → H1[q]? = H[q]?) (ha : zK ≤ a) : va_S (fun a => N0 ≤ a) H0 H1 (locs ++ [⟨zr fz N0 a, k⟩]) := h.put z oq (zr_ge ha)
theorem zS.grow {N0 : Nat} {H0 H H1 : Heap} {locs : List Loc} (h : va_S (fun a => N0 ≤ a) H0 H locs) (z : H.size ≤ H1.size) (oq : ∀ q : Nat, q < H.size → H1[q]? = H[q]?) : va_S (fun a => N0 ≤ a) H0 H1 locs :=
  ⟨Nat.le_trans h.1 z, fun q h1 h2 => (oq q (Nat.lt_of_lt_of_le h1 h.1)).trans (h.2.1 q h1 h2), h.2.2⟩
/-! ===== fields, at the machine ===== -/
/-- a class of the table: its fields' words, types, names apart -/
def zCF (C : String) (T : u_T) (N ci : Nat) (ty0 : Nat → FieldType) : Prop :=
  zCl[ci]? = some (C, T, N) ∧ (∀ w ∈ u_ws C T N, w ∈ lw_all) ∧ (∀ k, k < N → parseFieldDescriptor (T k).2.2.1 = some (ty0 k)) ∧ (∀ a, a < N → ∀ b, b < N → a ≠ b → (T a).2.1 ≠ (T b).2.1) ∧ zCt[ci]? = some ty0
theorem zCF.ty {C : String} {T : u_T} {N ci : Nat} {ty0 : Nat → FieldType} (h : zCF C T N ci ty0) (k : Nat) : zty ci k = ty0 k := by
  unfold zty; rw [h.2.2.2.2]
section ZF
variable {p : Program} {l : Launch} {e : Env} {R : Room} {s : State} {m : MethodId} {args : Array Value} {below : List Frame} {meth : Method} {c : Code} {H : Heap} {locs : List Loc} {cells slots : Nat} {Q : State → Prop}
variable {cc : ByteArray} {pc : Nat} {ls : Array Slot} {rest : List Value} {D : va_G} {a : Nat} {tys : List (ClassId × FieldType)}
theorem zw_get (hexec : p.tables.exec = Jvm.exec) (hb : c.code = cc) {own ref C : String} {T : u_T} {N ci index : Nat} {ty0 : Nat → FieldType} (hts : ∀ w ∈ lw_all, w.before args s = true) (hcf : zCF C T N ci ty0) (hown : s.vm.findClass own = some m.cls) (hK : va_K D zCl tys s) {own9 : Prop} {V : Nat → Value} (ho : zOB own9 a (D.1 ci) N (D.2 ci) H V) (k : Nat) (hk : k < N) (hlink : (Cond.fieldLink own index ref (T k).2.1 (T k).2.2.1).before args s = true) (hsame : ∀ x, s.fieldFound? (T k).1 (T k).2.1 (T k).2.2.1 = some x → s.fieldFound? ref (T k).2.1 (T k).2.2.1 = some x) (hdg : decode cc pc = .ok (.getfield index, 3))
    (kk : W p l e R s m args below meth c H locs cells slots Q (F0 m (pc + 3) ls (V k :: rest))) : W p l e R s m args below meth c H locs cells slots Q (F0 m pc ls (.ref a :: rest)) := by
  obtain ⟨hc, hin, hty, hnm, -⟩ := hcf
  obtain ⟨cell, q1, q2, q3, q4, q5, q6⟩ := ho
  obtain ⟨hS, hfc, kC, hkC, hkind⟩ := hK.1 ci _ hc
  obtain ⟨cf, kf, fi, f, hi, hsl⟩ := hS k hk
  refine W.getf hexec hb hown hlink (hsame _ hi) (u_facts hfc hkC (u_lays hts hin hk) hi).1 q1 q5 (v := V k) ?_ rfl rfl hdg kk
  rw [hsl, q6 k hk]
theorem zw_put (hexec : p.tables.exec = Jvm.exec) (hb : c.code = cc) {own ref C : String} {T : u_T} {N ci index : Nat} {ty0 : Nat → FieldType} (hts : ∀ w ∈ lw_all, w.before args s = true) (hcf : zCF C T N ci ty0) (hown : s.vm.findClass own = some m.cls) (hK : va_K D zCl tys s) {V : Nat → Value} (ho : t_OB a (D.1 ci) N (D.2 ci) H V) (k : Nat) (hk : k < N) (hlink : (Cond.fieldLink own index ref (T k).2.1 (T k).2.2.1).before args s = true) (hsame : ∀ x, s.fieldFound? (T k).1 (T k).2.1 (T k).2.2.1 = some x → s.fieldFound? ref (T k).2.1 (T k).2.2.1 = some x) (hfin : (T k).2.2.2 = false) {v : Value} (hn : narrow (ty0 k) v = v) (hfit : fits (ty0 k) v = true)
    (hdg : decode cc pc = .ok (.putfield index, 3)) (kk : ∀ (H1 : Heap), t_OB a (D.1 ci) N (D.2 ci) H1 (updV V k v) → H1.size = H.size → (∀ q, q ≠ a → H1[q]? = H[q]?) → W p l e R s m args below meth c H1 (locs ++ [⟨a, D.2 ci k⟩]) cells slots Q (F0 m (pc + 3) ls rest)) : W p l e R s m args below meth c H locs cells slots Q (F0 m pc ls (v :: .ref a :: rest)) := by
  obtain ⟨hc, hin, hty, hnm, -⟩ := hcf
  have hap := va_apart (own := own) hts hin ty0 hty hnm hK hc
  obtain ⟨cell, q1, q2, q3, q4⟩ := ho
  obtain ⟨hS, hfc, kC, hkC, hkind⟩ := hK.1 ci _ hc
  obtain ⟨cf, kf, fi, f, hi, hsl⟩ := hS k hk
  have hlay := hts _ (hin _ (u_in_lay hk))
  unfold u_lay at hlay
  rw [if_neg (by rw [hfin]; decide)] at hlay
  have hst := (u_facts hfc hkC (u_lays hts hin hk) hi).1
  have h6 := u_store hfc hkC hkind hlay hi (hty k hk) hn hfit
  refine W.putK hexec hb (f := f) ⟨hown, hlink, ⟨_, _, _, hsame _ hi⟩, hst⟩ (by rw [q2]; exact h6) q1 q3 (by rw [hsl]; exact k2_hasslot (q4 k hk)) rfl rfl hdg fun H' e1 e2 e3 => ?_
  rw [hsl] at e1 ⊢
  exact kk H' ⟨_, e1, q2, q3, t_set q4 hap hk v⟩ e2 e3
theorem zw_putF (hexec : p.tables.exec = Jvm.exec) (hb : c.code = cc) {own ref C : String} {T : u_T} {N ci index : Nat} {ty0 : Nat → FieldType} (hts : ∀ w ∈ lw_all, w.before args s = true) (hcf : zCF C T N ci ty0) (hown : s.vm.findClass own = some m.cls) (hK : va_K D zCl tys s) {V : Nat → Value} (ho : t_OB a (D.1 ci) N (D.2 ci) H V) (k : Nat) (hk : k < N) (hlink : (Cond.fieldLink own index ref (T k).2.1 (T k).2.2.1).before args s = true) (hsame : ∀ x, s.fieldFound? (T k).1 (T k).2.1 (T k).2.2.1 = some x → s.fieldFound? ref (T k).2.1 (T k).2.2.1 = some x) (hfin : (T k).2.2.2 = true) (hin2 : meth.name = "<init>") (hdecl : (T k).1 = own) {v : Value} (hn : narrow (ty0 k) v = v) (hfit : fits (ty0 k) v = true)
    (hdg : decode cc pc = .ok (.putfield index, 3)) (kk : ∀ (H1 : Heap), t_OB a (D.1 ci) N (D.2 ci) H1 (updV V k v) → H1.size = H.size → (∀ q, q ≠ a → H1[q]? = H[q]?) → W p l e R s m args below meth c H1 (locs ++ [⟨a, D.2 ci k⟩]) cells slots Q (F0 m (pc + 3) ls rest)) : W p l e R s m args below meth c H locs cells slots Q (F0 m pc ls (v :: .ref a :: rest)) := by
  obtain ⟨hc, hin, hty, hnm, -⟩ := hcf
  have hap := va_apart (own := own) hts hin ty0 hty hnm hK hc
  obtain ⟨cell, q1, q2, q3, q4⟩ := ho
  obtain ⟨hS, hfc, kC, hkC, hkind⟩ := hK.1 ci _ hc
  obtain ⟨cf, kf, fi, f, hi, hsl⟩ := hS k hk
  have hlay := hts _ (hin _ (u_in_lay hk))
  unfold u_lay at hlay
  rw [if_pos hfin] at hlay
  have hst := (u_facts hfc hkC (u_lays hts hin hk) hi).1
  have hcf : m.cls = cf := by
    obtain ⟨_, _, c', _, _, _, -, -, hf', -, -, -, hown2, -⟩ := Cond.laysFinal_spec hlay
    have e1 : c' = cf := by have := hi.symm.trans hf'; simp at this; exact this.1.symm
    rw [hdecl] at hown2
    rw [← e1]; exact Option.some.inj (hown.symm.trans hown2)
  have h6 := u_fits hfc hkC hkind (Or.inr hlay) hi (hty k hk) hn hfit
  refine W.putFinK hexec hb hown hlink (hsame _ hi) hst hcf hin2 (by rw [q2]; exact h6) q1 q3 (by rw [hsl]; exact k2_hasslot (q4 k hk)) rfl rfl hdg fun H' e1 e2 e3 => ?_
  rw [hsl] at e1 ⊢
  exact kk H' ⟨_, e1, q2, q3, t_set q4 hap hk v⟩ e2 e3
theorem zw_getN (hexec : p.tables.exec = Jvm.exec) (hb : c.code = cc) {own ref C host : String} {T : u_T} {N ci index : Nat} {ty0 : Nat → FieldType} (hts : ∀ w ∈ lw_all, w.before args s = true) (hcf : zCF C T N ci ty0) (hown : s.vm.findClass own = some m.cls) (hK : va_K D zCl tys s) {own9 : Prop} {V : Nat → Value} (ho : zOB own9 a (D.1 ci) N (D.2 ci) H V) (k : Nat) (hk : k < N) (hlink : (Cond.fieldLinkNest own index ref (T k).2.1 (T k).2.2.1 host).before args s = true) (hsame : ∀ x, s.fieldFound? (T k).1 (T k).2.1 (T k).2.2.1 = some x → s.fieldFound? ref (T k).2.1 (T k).2.2.1 = some x) (hdg : decode cc pc = .ok (.getfield index, 3))
    (kk : W p l e R s m args below meth c H locs cells slots Q (F0 m (pc + 3) ls (V k :: rest))) : W p l e R s m args below meth c H locs cells slots Q (F0 m pc ls (.ref a :: rest)) := by
  obtain ⟨hc, hin, hty, hnm, -⟩ := hcf
  obtain ⟨cell, q1, q2, q3, q4, q5, q6⟩ := ho
  obtain ⟨hS, hfc, kC, hkC, hkind⟩ := hK.1 ci _ hc
  obtain ⟨cf, kf, fi, f, hi, hsl⟩ := hS k hk
  refine va_Wgetf hexec hb hown hlink (hsame _ hi) (u_facts hfc hkC (u_lays hts hin hk) hi).1 q1 q5 (v := V k) ?_ rfl rfl hdg kk
  rw [hsl, q6 k hk]
theorem zw_putN (hexec : p.tables.exec = Jvm.exec) (hb : c.code = cc) {own ref C host : String} {T : u_T} {N ci index : Nat} {ty0 : Nat → FieldType} (hts : ∀ w ∈ lw_all, w.before args s = true) (hcf : zCF C T N ci ty0) (hown : s.vm.findClass own = some m.cls) (hK : va_K D zCl tys s) {V : Nat → Value} (ho : t_OB a (D.1 ci) N (D.2 ci) H V) (k : Nat) (hk : k < N) (hlink : (Cond.fieldLinkNest own index ref (T k).2.1 (T k).2.2.1 host).before args s = true) (hsame : ∀ x, s.fieldFound? (T k).1 (T k).2.1 (T k).2.2.1 = some x → s.fieldFound? ref (T k).2.1 (T k).2.2.1 = some x) (hfin : (T k).2.2.2 = false) {v : Value} (hn : narrow (ty0 k) v = v) (hfit : fits (ty0 k) v = true)
    (hdg : decode cc pc = .ok (.putfield index, 3)) (kk : ∀ (H1 : Heap), t_OB a (D.1 ci) N (D.2 ci) H1 (updV V k v) → H1.size = H.size → (∀ q, q ≠ a → H1[q]? = H[q]?) → W p l e R s m args below meth c H1 (locs ++ [⟨a, D.2 ci k⟩]) cells slots Q (F0 m (pc + 3) ls rest)) : W p l e R s m args below meth c H locs cells slots Q (F0 m pc ls (v :: .ref a :: rest)) := by
  obtain ⟨hc, hin, hty, hnm, -⟩ := hcf
  have hap := va_apart (own := own) hts hin ty0 hty hnm hK hc
  obtain ⟨cell, q1, q2, q3, q4⟩ := ho
  obtain ⟨hS, hfc, kC, hkC, hkind⟩ := hK.1 ci _ hc
  obtain ⟨cf, kf, fi, f, hi, hsl⟩ := hS k hk
  have hlay := hts _ (hin _ (u_in_lay hk))
  unfold u_lay at hlay
  rw [if_neg (by rw [hfin]; decide)] at hlay
  have hst := (u_facts hfc hkC (u_lays hts hin hk) hi).1
  have h6 := u_store hfc hkC hkind hlay hi (hty k hk) hn hfit
  refine va_WputK hexec hb (f := f) hown hlink (hsame _ hi) hst (by rw [q2]; exact h6) q1 q3 (by rw [hsl]; exact k2_hasslot (q4 k hk)) rfl rfl hdg fun H' e1 e2 e3 => ?_
  rw [hsl] at e1 ⊢
  exact kk H' ⟨_, e1, q2, q3, t_set q4 hap hk v⟩ e2 e3
end ZF
section PWR
variable {Y : zY} {d : Nat} {P : zP} {bc bs pc : Nat} {ls : List (Nat × Value)} {st : List Value} {g : zg_G} {n : zg_N}
theorem pw_iconst {z : Int} {v : Int32} (dd : decode Y.2.2.1 pc = .ok (.iconst z, 1)) (hv : Int32.ofInt z = v) (k : PW Y d P bc bs (pc + 1) ls (.int v :: st) g n) : PW Y d P bc bs (pc) ls (st) g n := by
  intro p l e R s m args below meth c D fz N0 C H locs cells slots lr V
  exact lv_iconst C.1 C.2.1 dd hv (k p l e R s m args below meth c D fz N0 C H locs cells slots lr V)
theorem pw_bipush {z : Int} {v : Int32} (dd : decode Y.2.2.1 pc = .ok (.bipush z, 2)) (hv : (Int8.ofInt z).toInt32 = v) (k : PW Y d P bc bs (pc + 2) ls (.int v :: st) g n) : PW Y d P bc bs (pc) ls (st) g n := by
  intro p l e R s m args below meth c D fz N0 C H locs cells slots lr V
  exact lv_bipush C.1 C.2.1 dd hv (k p l e R s m args below meth c D fz N0 C H locs cells slots lr V)
theorem pw_sipush {z : Int} {v : Int32} (dd : decode Y.2.2.1 pc = .ok (.sipush z, 3)) (hv : (Int16.ofInt z).toInt32 = v) (k : PW Y d P bc bs (pc + 3) ls (.int v :: st) g n) : PW Y d P bc bs (pc) ls (st) g n := by
  intro p l e R s m args below meth c D fz N0 C H locs cells slots lr V
  exact lv_sipush C.1 C.2.1 dd hv (k p l e R s m args below meth c D fz N0 C H locs cells slots lr V)
theorem pw_lconst {z : Fin 2} {v : Int64} (dd : decode Y.2.2.1 pc = .ok (.lconst z, 1)) (hv : Int64.ofNat (z : Nat) = v) (k : PW Y d P bc bs (pc + 1) ls (.long v :: st) g n) : PW Y d P bc bs (pc) ls (st) g n := by
  intro p l e R s m args below meth c D fz N0 C H locs cells slots lr V
  exact lv_lconst C.1 C.2.1 dd hv (k p l e R s m args below meth c D fz N0 C H locs cells slots lr V)
theorem pw_iadd {x y : Int32} (dd : decode Y.2.2.1 pc = .ok (.iadd, 1)) (k : PW Y d P bc bs (pc + 1) ls (.int (x + y) :: st) g n) : PW Y d P bc bs (pc) ls (.int y :: .int x :: st) g n := by
  intro p l e R s m args below meth c D fz N0 C H locs cells slots lr V
  exact lv_iadd C.1 C.2.1 dd (k p l e R s m args below meth c D fz N0 C H locs cells slots lr V)
theorem pw_isub {x y : Int32} (dd : decode Y.2.2.1 pc = .ok (.isub, 1)) (k : PW Y d P bc bs (pc + 1) ls (.int (x - y) :: st) g n) : PW Y d P bc bs (pc) ls (.int y :: .int x :: st) g n := by
  intro p l e R s m args below meth c D fz N0 C H locs cells slots lr V
  exact lv_isub C.1 C.2.1 dd (k p l e R s m args below meth c D fz N0 C H locs cells slots lr V)
theorem pw_imul {x y : Int32} (dd : decode Y.2.2.1 pc = .ok (.imul, 1)) (k : PW Y d P bc bs (pc + 1) ls (.int (x * y) :: st) g n) : PW Y d P bc bs (pc) ls (.int y :: .int x :: st) g n := by
  intro p l e R s m args below meth c D fz N0 C H locs cells slots lr V
  exact lv_imul C.1 C.2.1 dd (k p l e R s m args below meth c D fz N0 C H locs cells slots lr V)
theorem pw_iand {x y : Int32} (dd : decode Y.2.2.1 pc = .ok (.iand, 1)) (k : PW Y d P bc bs (pc + 1) ls (.int (x &&& y) :: st) g n) : PW Y d P bc bs (pc) ls (.int y :: .int x :: st) g n := by
  intro p l e R s m args below meth c D fz N0 C H locs cells slots lr V
  exact lv_iand C.1 C.2.1 dd (k p l e R s m args below meth c D fz N0 C H locs cells slots lr V)
theorem pw_ior {x y : Int32} (dd : decode Y.2.2.1 pc = .ok (.ior, 1)) (k : PW Y d P bc bs (pc + 1) ls (.int (x ||| y) :: st) g n) : PW Y d P bc bs (pc) ls (.int y :: .int x :: st) g n := by
  intro p l e R s m args below meth c D fz N0 C H locs cells slots lr V
  exact lv_ior C.1 C.2.1 dd (k p l e R s m args below meth c D fz N0 C H locs cells slots lr V)
theorem pw_ixor {x y : Int32} (dd : decode Y.2.2.1 pc = .ok (.ixor, 1)) (k : PW Y d P bc bs (pc + 1) ls (.int (x ^^^ y) :: st) g n) : PW Y d P bc bs (pc) ls (.int y :: .int x :: st) g n := by
  intro p l e R s m args below meth c D fz N0 C H locs cells slots lr V
  exact lv_ixor C.1 C.2.1 dd (k p l e R s m args below meth c D fz N0 C H locs cells slots lr V)
theorem pw_ladd {x y : Int64} (dd : decode Y.2.2.1 pc = .ok (.ladd, 1)) (k : PW Y d P bc bs (pc + 1) ls (.long (x + y) :: st) g n) : PW Y d P bc bs (pc) ls (.long y :: .long x :: st) g n := by
  intro p l e R s m args below meth c D fz N0 C H locs cells slots lr V
  exact lv_ladd C.1 C.2.1 dd (k p l e R s m args below meth c D fz N0 C H locs cells slots lr V)
theorem pw_lsub {x y : Int64} (dd : decode Y.2.2.1 pc = .ok (.lsub, 1)) (k : PW Y d P bc bs (pc + 1) ls (.long (x - y) :: st) g n) : PW Y d P bc bs (pc) ls (.long y :: .long x :: st) g n := by
  intro p l e R s m args below meth c D fz N0 C H locs cells slots lr V
  exact lv_lsub C.1 C.2.1 dd (k p l e R s m args below meth c D fz N0 C H locs cells slots lr V)
theorem pw_lmul {x y : Int64} (dd : decode Y.2.2.1 pc = .ok (.lmul, 1)) (k : PW Y d P bc bs (pc + 1) ls (.long (x * y) :: st) g n) : PW Y d P bc bs (pc) ls (.long y :: .long x :: st) g n := by
  intro p l e R s m args below meth c D fz N0 C H locs cells slots lr V
  exact lv_lmul C.1 C.2.1 dd (k p l e R s m args below meth c D fz N0 C H locs cells slots lr V)
theorem pw_land {x y : Int64} (dd : decode Y.2.2.1 pc = .ok (.land, 1)) (k : PW Y d P bc bs (pc + 1) ls (.long (x &&& y) :: st) g n) : PW Y d P bc bs (pc) ls (.long y :: .long x :: st) g n := by
  intro p l e R s m args below meth c D fz N0 C H locs cells slots lr V
  exact lv_land C.1 C.2.1 dd (k p l e R s m args below meth c D fz N0 C H locs cells slots lr V)
theorem pw_lor {x y : Int64} (dd : decode Y.2.2.1 pc = .ok (.lor, 1)) (k : PW Y d P bc bs (pc + 1) ls (.long (x ||| y) :: st) g n) : PW Y d P bc bs (pc) ls (.long y :: .long x :: st) g n := by
  intro p l e R s m args below meth c D fz N0 C H locs cells slots lr V
  exact lv_lor C.1 C.2.1 dd (k p l e R s m args below meth c D fz N0 C H locs cells slots lr V)
theorem pw_lxor {x y : Int64} (dd : decode Y.2.2.1 pc = .ok (.lxor, 1)) (k : PW Y d P bc bs (pc + 1) ls (.long (x ^^^ y) :: st) g n) : PW Y d P bc bs (pc) ls (.long y :: .long x :: st) g n := by
  intro p l e R s m args below meth c D fz N0 C H locs cells slots lr V
  exact lv_lxor C.1 C.2.1 dd (k p l e R s m args below meth c D fz N0 C H locs cells slots lr V)
theorem pw_irem {x y : Int32} (dd : decode Y.2.2.1 pc = .ok (.irem, 1)) (hne : ¬ y = 0) (k : PW Y d P bc bs (pc + 1) ls (.int (x - x / y * y) :: st) g n) : PW Y d P bc bs (pc) ls (.int y :: .int x :: st) g n := by
  intro p l e R s m args below meth c D fz N0 C H locs cells slots lr V
  exact lv_irem C.1 C.2.1 dd hne (k p l e R s m args below meth c D fz N0 C H locs cells slots lr V)
theorem pw_idiv {x y : Int32} (dd : decode Y.2.2.1 pc = .ok (.idiv, 1)) (hne : ¬ y = 0) (k : PW Y d P bc bs (pc + 1) ls (.int (x / y) :: st) g n) : PW Y d P bc bs (pc) ls (.int y :: .int x :: st) g n := by
  intro p l e R s m args below meth c D fz N0 C H locs cells slots lr V
  exact lv_idiv C.1 C.2.1 dd hne (k p l e R s m args below meth c D fz N0 C H locs cells slots lr V)
theorem pw_ineg {x : Int32} (dd : decode Y.2.2.1 pc = .ok (.ineg, 1)) (k : PW Y d P bc bs (pc + 1) ls (.int (-x) :: st) g n) : PW Y d P bc bs (pc) ls (.int x :: st) g n := by
  intro p l e R s m args below meth c D fz N0 C H locs cells slots lr V
  exact lv_ineg C.1 C.2.1 dd (k p l e R s m args below meth c D fz N0 C H locs cells slots lr V)
theorem pw_ishl {x y : Int32} (dd : decode Y.2.2.1 pc = .ok (.ishl, 1)) (k : PW Y d P bc bs (pc + 1) ls (.int (x <<< (y &&& 31)) :: st) g n) : PW Y d P bc bs (pc) ls (.int y :: .int x :: st) g n := by
  intro p l e R s m args below meth c D fz N0 C H locs cells slots lr V
  exact lv_ishl C.1 C.2.1 dd (k p l e R s m args below meth c D fz N0 C H locs cells slots lr V)
theorem pw_ishr {x y : Int32} (dd : decode Y.2.2.1 pc = .ok (.ishr, 1)) (k : PW Y d P bc bs (pc + 1) ls (.int (x >>> (y &&& 31)) :: st) g n) : PW Y d P bc bs (pc) ls (.int y :: .int x :: st) g n := by
  intro p l e R s m args below meth c D fz N0 C H locs cells slots lr V
  exact lv_ishr C.1 C.2.1 dd (k p l e R s m args below meth c D fz N0 C H locs cells slots lr V)
theorem pw_iushr {x y : Int32} (dd : decode Y.2.2.1 pc = .ok (.iushr, 1)) (k : PW Y d P bc bs (pc + 1) ls (.int (x.toUInt32 >>> (y.toUInt32 &&& Int32.toUInt32 31)).toInt32 :: st) g n) : PW Y d P bc bs (pc) ls (.int y :: .int x :: st) g n := by
  intro p l e R s m args below meth c D fz N0 C H locs cells slots lr V
  exact lv_iushr C.1 C.2.1 dd rfl (k p l e R s m args below meth c D fz N0 C H locs cells slots lr V)
theorem pw_lushr {x : Int64} {y : Int32} (dd : decode Y.2.2.1 pc = .ok (.lushr, 1)) (k : PW Y d P bc bs (pc + 1) ls (.long (x.toUInt64 >>> (y.toInt64.toUInt64 &&& Int64.toUInt64 63)).toInt64 :: st) g n) : PW Y d P bc bs (pc) ls (.int y :: .long x :: st) g n := by
  intro p l e R s m args below meth c D fz N0 C H locs cells slots lr V
  exact lv_lushr C.1 C.2.1 dd rfl (k p l e R s m args below meth c D fz N0 C H locs cells slots lr V)
theorem pw_lshl {x : Int64} {y : Int32} (dd : decode Y.2.2.1 pc = .ok (.lshl, 1)) (k : PW Y d P bc bs (pc + 1) ls (.long (x <<< (y.toInt64 &&& 63)) :: st) g n) : PW Y d P bc bs (pc) ls (.int y :: .long x :: st) g n := by
  intro p l e R s m args below meth c D fz N0 C H locs cells slots lr V
  exact lv_lshl C.1 C.2.1 dd rfl (k p l e R s m args below meth c D fz N0 C H locs cells slots lr V)
theorem pw_lshr {x : Int64} {y : Int32} (dd : decode Y.2.2.1 pc = .ok (.lshr, 1)) (k : PW Y d P bc bs (pc + 1) ls (.long (x >>> (y.toInt64 &&& 63)) :: st) g n) : PW Y d P bc bs (pc) ls (.int y :: .long x :: st) g n := by
  intro p l e R s m args below meth c D fz N0 C H locs cells slots lr V
  exact lv_lshr C.1 C.2.1 dd rfl (k p l e R s m args below meth c D fz N0 C H locs cells slots lr V)
theorem pw_i2l {x : Int32} (dd : decode Y.2.2.1 pc = .ok (.i2l, 1)) (k : PW Y d P bc bs (pc + 1) ls (.long x.toInt64 :: st) g n) : PW Y d P bc bs (pc) ls (.int x :: st) g n := by
  intro p l e R s m args below meth c D fz N0 C H locs cells slots lr V
  exact lv_i2l C.1 C.2.1 dd rfl (k p l e R s m args below meth c D fz N0 C H locs cells slots lr V)
theorem pw_l2i {x : Int64} (dd : decode Y.2.2.1 pc = .ok (.l2i, 1)) (k : PW Y d P bc bs (pc + 1) ls (.int x.toInt32 :: st) g n) : PW Y d P bc bs (pc) ls (.long x :: st) g n := by
  intro p l e R s m args below meth c D fz N0 C H locs cells slots lr V
  exact lv_l2i C.1 C.2.1 dd rfl (k p l e R s m args below meth c D fz N0 C H locs cells slots lr V)
theorem pw_i2b {x : Int32} (dd : decode Y.2.2.1 pc = .ok (.i2b, 1)) (k : PW Y d P bc bs (pc + 1) ls (.int x.toInt8.toInt32 :: st) g n) : PW Y d P bc bs (pc) ls (.int x :: st) g n := by
  intro p l e R s m args below meth c D fz N0 C H locs cells slots lr V
  exact lv_i2b C.1 C.2.1 dd rfl (k p l e R s m args below meth c D fz N0 C H locs cells slots lr V)
theorem pw_i2c {x : Int32} (dd : decode Y.2.2.1 pc = .ok (.i2c, 1)) (k : PW Y d P bc bs (pc + 1) ls (.int (x.toUInt32 % 65536).toInt32 :: st) g n) : PW Y d P bc bs (pc) ls (.int x :: st) g n := by
  intro p l e R s m args below meth c D fz N0 C H locs cells slots lr V
  exact lv_i2c C.1 C.2.1 dd rfl (k p l e R s m args below meth c D fz N0 C H locs cells slots lr V)
theorem pw_lcmp {x y : Int64} (dd : decode Y.2.2.1 pc = .ok (.lcmp, 1)) (k : PW Y d P bc bs (pc + 1) ls (.int (lg_cmp x y) :: st) g n) : PW Y d P bc bs (pc) ls (.long y :: .long x :: st) g n := by
  intro p l e R s m args below meth c D fz N0 C H locs cells slots lr V
  exact W.lcmp C.1 C.2.1 dd (k p l e R s m args below meth c D fz N0 C H locs cells slots lr V)
theorem pw_null  (dd : decode Y.2.2.1 pc = .ok (.aconst_null, 1)) (k : PW Y d P bc bs (pc + 1) ls (.null :: st) g n) : PW Y d P bc bs (pc) ls (st) g n := by
  intro p l e R s m args below meth c D fz N0 C H locs cells slots lr V
  exact lv_null C.1 C.2.1 dd (k p l e R s m args below meth c D fz N0 C H locs cells slots lr V)
theorem pw_iload_n {k : Fin 4} {i : Nat} {x : Int32} (dd : decode Y.2.2.1 pc = .ok (.iload_n k, 1)) (j : Nat) (hj : ls[j]? = some (i, .int x)) (hi : (k : Nat) = i) (kk : PW Y d P bc bs (pc + 1) ls (.int x :: st) g n) : PW Y d P bc bs (pc) ls (st) g n := by
  intro p l e R s m args below meth c D fz N0 C H locs cells slots lr V
  exact lv_iload_n C.1 C.2.1 dd hi (lv_at V.2.2.1 j (by rw [List.getElem?_map, hj]; rfl)) (kk p l e R s m args below meth c D fz N0 C H locs cells slots lr V)
theorem pw_iload {i : Nat} {x : Int32} (dd : decode Y.2.2.1 pc = .ok (.iload i, 2)) (j : Nat) (hj : ls[j]? = some (i, .int x)) (kk : PW Y d P bc bs (pc + 2) ls (.int x :: st) g n) : PW Y d P bc bs (pc) ls (st) g n := by
  intro p l e R s m args below meth c D fz N0 C H locs cells slots lr V
  exact lv_iload C.1 C.2.1 dd (lv_at V.2.2.1 j (by rw [List.getElem?_map, hj]; rfl)) (kk p l e R s m args below meth c D fz N0 C H locs cells slots lr V)
theorem pw_lload_n {k : Fin 4} {i : Nat} {x : Int64} (dd : decode Y.2.2.1 pc = .ok (.lload_n k, 1)) (j : Nat) (hj : ls[j]? = some (i, .long x)) (hi : (k : Nat) = i) (kk : PW Y d P bc bs (pc + 1) ls (.long x :: st) g n) : PW Y d P bc bs (pc) ls (st) g n := by
  intro p l e R s m args below meth c D fz N0 C H locs cells slots lr V
  exact lv_lload_n C.1 C.2.1 dd hi (lv_at V.2.2.1 j (by rw [List.getElem?_map, hj]; rfl)) (kk p l e R s m args below meth c D fz N0 C H locs cells slots lr V)
theorem pw_lload {i : Nat} {x : Int64} (dd : decode Y.2.2.1 pc = .ok (.lload i, 2)) (j : Nat) (hj : ls[j]? = some (i, .long x)) (kk : PW Y d P bc bs (pc + 2) ls (.long x :: st) g n) : PW Y d P bc bs (pc) ls (st) g n := by
  intro p l e R s m args below meth c D fz N0 C H locs cells slots lr V
  exact lv_lload C.1 C.2.1 dd (lv_at V.2.2.1 j (by rw [List.getElem?_map, hj]; rfl)) (kk p l e R s m args below meth c D fz N0 C H locs cells slots lr V)
theorem pw_aload_n {k : Fin 4} {i : Nat} {x : Nat} (dd : decode Y.2.2.1 pc = .ok (.aload_n k, 1)) (j : Nat) (hj : ls[j]? = some (i, .ref x)) (hi : (k : Nat) = i) (kk : PW Y d P bc bs (pc + 1) ls (.ref x :: st) g n) : PW Y d P bc bs (pc) ls (st) g n := by
  intro p l e R s m args below meth c D fz N0 C H locs cells slots lr V
  exact lv_aload_n C.1 C.2.1 dd hi (lv_at V.2.2.1 j (by rw [List.getElem?_map, hj]; rfl)) (kk p l e R s m args below meth c D fz N0 C H locs cells slots lr V)
theorem pw_aload {i : Nat} {x : Nat} (dd : decode Y.2.2.1 pc = .ok (.aload i, 2)) (j : Nat) (hj : ls[j]? = some (i, .ref x)) (kk : PW Y d P bc bs (pc + 2) ls (.ref x :: st) g n) : PW Y d P bc bs (pc) ls (st) g n := by
  intro p l e R s m args below meth c D fz N0 C H locs cells slots lr V
  exact lv_aload C.1 C.2.1 dd (lv_at V.2.2.1 j (by rw [List.getElem?_map, hj]; rfl)) (kk p l e R s m args below meth c D fz N0 C H locs cells slots lr V)
theorem pw_aload_nN {k : Fin 4} {i : Nat} (dd : decode Y.2.2.1 pc = .ok (.aload_n k, 1)) (j : Nat) (hj : ls[j]? = some (i, .null)) (hi : (k : Nat) = i) (kk : PW Y d P bc bs (pc + 1) ls (.null :: st) g n) : PW Y d P bc bs (pc) ls (st) g n := by
  intro p l e R s m args below meth c D fz N0 C H locs cells slots lr V
  exact lv_aload_nN C.1 C.2.1 dd hi (lv_at V.2.2.1 j (by rw [List.getElem?_map, hj]; rfl)) (kk p l e R s m args below meth c D fz N0 C H locs cells slots lr V)
theorem pw_aloadN {i : Nat} (dd : decode Y.2.2.1 pc = .ok (.aload i, 2)) (j : Nat) (hj : ls[j]? = some (i, .null)) (kk : PW Y d P bc bs (pc + 2) ls (.null :: st) g n) : PW Y d P bc bs (pc) ls (st) g n := by
  intro p l e R s m args below meth c D fz N0 C H locs cells slots lr V
  exact lv_aloadN C.1 C.2.1 dd (lv_at V.2.2.1 j (by rw [List.getElem?_map, hj]; rfl)) (kk p l e R s m args below meth c D fz N0 C H locs cells slots lr V)
def zst1 (ls : List (Nat × Value)) (i : Nat) (v : Value) : List (Nat × Value) := (i, v) :: ls.filter (fun q => !(q.1 == i) && !(q.1 + 1 == i && q.2.category == 2))
def zst2 (ls : List (Nat × Value)) (i : Nat) (v : Value) : List (Nat × Value) := (i, v) :: ls.filter (fun q => !(q.1 == i) && (!(q.1 == i + 1) && !(q.1 + 1 == i && q.2.category == 2)))
theorem zst1_map (ρ : Nat → Nat) (ls : List (Nat × Value)) (i : Nat) (v : Value) : (i, zv_tr ρ v) :: (ls.map fun q => (q.1, zv_tr ρ q.2)).filter (fun q => !(q.1 == i) && !(q.1 + 1 == i && q.2.category == 2)) = (zst1 ls i v).map fun q => (q.1, zv_tr ρ q.2) := by
  simp [zst1, List.filter_map, Function.comp_def, zv_cat]
theorem zst2_map (ρ : Nat → Nat) (ls : List (Nat × Value)) (i : Nat) (v : Value) : (i, zv_tr ρ v) :: (ls.map fun q => (q.1, zv_tr ρ q.2)).filter (fun q => !(q.1 == i) && (!(q.1 == i + 1) && !(q.1 + 1 == i && q.2.category == 2))) = (zst2 ls i v).map fun q => (q.1, zv_tr ρ q.2) := by
  simp [zst2, List.filter_map, Function.comp_def, zv_cat]
theorem pw_istore_n {k : Fin 4} {i : Nat} {x : Int32} {ls' : List (Nat × Value)} (dd : decode Y.2.2.1 pc = .ok (.istore_n k, 1)) (hi : (k : Nat) = i) (hn : i < Y.2.2.2.1) (hl : zst1 ls i (.int x) = ls') (kk : PW Y d P bc bs (pc + 1) ls' (st) g n) : PW Y d P bc bs (pc) ls (.int x :: st) g n := by
  intro p l e R s m args below meth c D fz N0 C H locs cells slots lr V
  subst hl
  exact lv_istore_n C.1 C.2.1 dd hi V.2.2.1 hn (zst1_map (zr fz N0) ls i (.int x)) (fun lr9 hl9 => kk p l e R s m args below meth c D fz N0 C H locs cells slots lr9 ⟨V.1, V.2.1, hl9, V.2.2.2.1, V.2.2.2.2⟩)
theorem pw_istore {i : Nat} {x : Int32} {ls' : List (Nat × Value)} (dd : decode Y.2.2.1 pc = .ok (.istore i, 2)) (hn : i < Y.2.2.2.1) (hl : zst1 ls i (.int x) = ls') (kk : PW Y d P bc bs (pc + 2) ls' (st) g n) : PW Y d P bc bs (pc) ls (.int x :: st) g n := by
  intro p l e R s m args below meth c D fz N0 C H locs cells slots lr V
  subst hl
  exact lv_istore C.1 C.2.1 dd V.2.2.1 hn (zst1_map (zr fz N0) ls i (.int x)) (fun lr9 hl9 => kk p l e R s m args below meth c D fz N0 C H locs cells slots lr9 ⟨V.1, V.2.1, hl9, V.2.2.2.1, V.2.2.2.2⟩)
theorem pw_lstore_n {k : Fin 4} {i : Nat} {x : Int64} {ls' : List (Nat × Value)} (dd : decode Y.2.2.1 pc = .ok (.lstore_n k, 1)) (hi : (k : Nat) = i) (hn : i + 1 < Y.2.2.2.1) (hl : zst2 ls i (.long x) = ls') (kk : PW Y d P bc bs (pc + 1) ls' (st) g n) : PW Y d P bc bs (pc) ls (.long x :: st) g n := by
  intro p l e R s m args below meth c D fz N0 C H locs cells slots lr V
  subst hl
  exact lv_lstore_n C.1 C.2.1 dd hi V.2.2.1 hn (zst2_map (zr fz N0) ls i (.long x)) (fun lr9 hl9 => kk p l e R s m args below meth c D fz N0 C H locs cells slots lr9 ⟨V.1, V.2.1, hl9, V.2.2.2.1, V.2.2.2.2⟩)
theorem pw_lstore {i : Nat} {x : Int64} {ls' : List (Nat × Value)} (dd : decode Y.2.2.1 pc = .ok (.lstore i, 2)) (hn : i + 1 < Y.2.2.2.1) (hl : zst2 ls i (.long x) = ls') (kk : PW Y d P bc bs (pc + 2) ls' (st) g n) : PW Y d P bc bs (pc) ls (.long x :: st) g n := by
  intro p l e R s m args below meth c D fz N0 C H locs cells slots lr V
  subst hl
  exact lv_lstore C.1 C.2.1 dd V.2.2.1 hn (zst2_map (zr fz N0) ls i (.long x)) (fun lr9 hl9 => kk p l e R s m args below meth c D fz N0 C H locs cells slots lr9 ⟨V.1, V.2.1, hl9, V.2.2.2.1, V.2.2.2.2⟩)
theorem pw_astore_n {k : Fin 4} {i : Nat} {x : Nat} {ls' : List (Nat × Value)} (dd : decode Y.2.2.1 pc = .ok (.astore_n k, 1)) (hi : (k : Nat) = i) (hn : i < Y.2.2.2.1) (hl : zst1 ls i (.ref x) = ls') (kk : PW Y d P bc bs (pc + 1) ls' (st) g n) : PW Y d P bc bs (pc) ls (.ref x :: st) g n := by
  intro p l e R s m args below meth c D fz N0 C H locs cells slots lr V
  subst hl
  exact lv_astore_n C.1 C.2.1 dd hi V.2.2.1 hn (zst1_map (zr fz N0) ls i (.ref x)) (fun lr9 hl9 => kk p l e R s m args below meth c D fz N0 C H locs cells slots lr9 ⟨V.1, V.2.1, hl9, V.2.2.2.1, V.2.2.2.2⟩)
theorem pw_astore {i : Nat} {x : Nat} {ls' : List (Nat × Value)} (dd : decode Y.2.2.1 pc = .ok (.astore i, 2)) (hn : i < Y.2.2.2.1) (hl : zst1 ls i (.ref x) = ls') (kk : PW Y d P bc bs (pc + 2) ls' (st) g n) : PW Y d P bc bs (pc) ls (.ref x :: st) g n := by
  intro p l e R s m args below meth c D fz N0 C H locs cells slots lr V
  subst hl
  exact lv_astore C.1 C.2.1 dd V.2.2.1 hn (zst1_map (zr fz N0) ls i (.ref x)) (fun lr9 hl9 => kk p l e R s m args below meth c D fz N0 C H locs cells slots lr9 ⟨V.1, V.2.1, hl9, V.2.2.2.1, V.2.2.2.2⟩)
theorem pw_iinc {i j : Nat} {z : Int} {x v : Int32} {ls' : List (Nat × Value)} (dd : decode Y.2.2.1 pc = .ok (.iinc i z, 3)) (hj : ls[j]? = some (i, .int x)) (hv : x + Int32.ofInt z = v) (hn : i < Y.2.2.2.1) (hl : zst1 ls i (.int v) = ls') (kk : PW Y d P bc bs (pc + 3) ls' (st) g n) : PW Y d P bc bs (pc) ls (st) g n := by
  intro p l e R s m args below meth c D fz N0 C H locs cells slots lr V
  subst hl
  exact lv_iinc (k := j) C.1 C.2.1 dd V.2.2.1 (by rw [List.getElem?_map, hj]; rfl) hv hn (zst1_map (zr fz N0) ls i (.int v)) (fun lr9 hl9 => kk p l e R s m args below meth c D fz N0 C H locs cells slots lr9 ⟨V.1, V.2.1, hl9, V.2.2.2.1, V.2.2.2.2⟩)
theorem pw_dup {v : Value} (dd : decode Y.2.2.1 pc = .ok (.dup, 1)) (hv : v.category = 1) (k : PW Y d P bc bs (pc + 1) ls (v :: v :: st) g n) : PW Y d P bc bs (pc) ls (v :: st) g n := by
  intro p l e R s m args below meth c D fz N0 C H locs cells slots lr V
  exact lv_dup C.1 C.2.1 dd (by rw [zv_cat]; exact hv) (k p l e R s m args below meth c D fz N0 C H locs cells slots lr V)
theorem pw_pop {v : Value} (dd : decode Y.2.2.1 pc = .ok (.pop, 1)) (hv : v.category = 1) (k : PW Y d P bc bs (pc + 1) ls (st) g n) : PW Y d P bc bs (pc) ls (v :: st) g n := by
  intro p l e R s m args below meth c D fz N0 C H locs cells slots lr V
  exact lv_pop C.1 C.2.1 dd (by rw [zv_cat]; exact hv) (k p l e R s m args below meth c D fz N0 C H locs cells slots lr V)
theorem pw_dup_x1 {v w : Value} (dd : decode Y.2.2.1 pc = .ok (.dup_x1, 1)) (hv : v.category = 1) (hw : w.category = 1) (k : PW Y d P bc bs (pc + 1) ls (v :: w :: v :: st) g n) : PW Y d P bc bs (pc) ls (v :: w :: st) g n := by
  intro p l e R s m args below meth c D fz N0 C H locs cells slots lr V
  exact lv_dup_x1 C.1 C.2.1 dd (by rw [zv_cat]; exact hv) (by rw [zv_cat]; exact hw) (k p l e R s m args below meth c D fz N0 C H locs cells slots lr V)
theorem pw_dup2_11 {v w : Value} (dd : decode Y.2.2.1 pc = .ok (.dup2, 1)) (hv : v.category = 1) (hw : w.category = 1) (k : PW Y d P bc bs (pc + 1) ls (v :: w :: v :: w :: st) g n) : PW Y d P bc bs (pc) ls (v :: w :: st) g n := by
  intro p l e R s m args below meth c D fz N0 C H locs cells slots lr V
  exact lv_dup2_11 C.1 C.2.1 dd (by rw [zv_cat]; exact hv) (by rw [zv_cat]; exact hw) (k p l e R s m args below meth c D fz N0 C H locs cells slots lr V)
theorem pw_if_eq {x : Int32} {off : Int} (tgt : Nat) (dd : decode Y.2.2.1 pc = .ok (.ifCond .eq off, 3)) (ht : (pc : Int) + off = (tgt : Int)) (kt : x = 0 → PW Y d P bc bs (tgt) ls (st) g n) (kf : ¬ x = 0 → PW Y d P bc bs (pc + 3) ls (st) g n) : PW Y d P bc bs (pc) ls (.int x :: st) g n := by
  intro p l e R s m args below meth c D fz N0 C H locs cells slots lr V
  exact lv_if_eq C.1 C.2.1 dd ht (fun h => kt h p l e R s m args below meth c D fz N0 C H locs cells slots lr V) (fun h => kf h p l e R s m args below meth c D fz N0 C H locs cells slots lr V)
theorem pw_icmp_eq {x y : Int32} {off : Int} (tgt : Nat) (dd : decode Y.2.2.1 pc = .ok (.if_icmp .eq off, 3)) (ht : (pc : Int) + off = (tgt : Int)) (kt : x = y → PW Y d P bc bs (tgt) ls (st) g n) (kf : ¬ x = y → PW Y d P bc bs (pc + 3) ls (st) g n) : PW Y d P bc bs (pc) ls (.int y :: .int x :: st) g n := by
  intro p l e R s m args below meth c D fz N0 C H locs cells slots lr V
  exact lv_icmp_eq C.1 C.2.1 dd ht (fun h => kt h p l e R s m args below meth c D fz N0 C H locs cells slots lr V) (fun h => kf h p l e R s m args below meth c D fz N0 C H locs cells slots lr V)
theorem pw_if_ne {x : Int32} {off : Int} (tgt : Nat) (dd : decode Y.2.2.1 pc = .ok (.ifCond .ne off, 3)) (ht : (pc : Int) + off = (tgt : Int)) (kt : ¬ x = 0 → PW Y d P bc bs (tgt) ls (st) g n) (kf : x = 0 → PW Y d P bc bs (pc + 3) ls (st) g n) : PW Y d P bc bs (pc) ls (.int x :: st) g n := by
  intro p l e R s m args below meth c D fz N0 C H locs cells slots lr V
  exact lv_if_ne C.1 C.2.1 dd ht (fun h => kt h p l e R s m args below meth c D fz N0 C H locs cells slots lr V) (fun h => kf h p l e R s m args below meth c D fz N0 C H locs cells slots lr V)
theorem pw_icmp_ne {x y : Int32} {off : Int} (tgt : Nat) (dd : decode Y.2.2.1 pc = .ok (.if_icmp .ne off, 3)) (ht : (pc : Int) + off = (tgt : Int)) (kt : ¬ x = y → PW Y d P bc bs (tgt) ls (st) g n) (kf : x = y → PW Y d P bc bs (pc + 3) ls (st) g n) : PW Y d P bc bs (pc) ls (.int y :: .int x :: st) g n := by
  intro p l e R s m args below meth c D fz N0 C H locs cells slots lr V
  exact lv_icmp_ne C.1 C.2.1 dd ht (fun h => kt h p l e R s m args below meth c D fz N0 C H locs cells slots lr V) (fun h => kf h p l e R s m args below meth c D fz N0 C H locs cells slots lr V)
theorem pw_if_lt {x : Int32} {off : Int} (tgt : Nat) (dd : decode Y.2.2.1 pc = .ok (.ifCond .lt off, 3)) (ht : (pc : Int) + off = (tgt : Int)) (kt : x < 0 → PW Y d P bc bs (tgt) ls (st) g n) (kf : ¬ x < 0 → PW Y d P bc bs (pc + 3) ls (st) g n) : PW Y d P bc bs (pc) ls (.int x :: st) g n := by
  intro p l e R s m args below meth c D fz N0 C H locs cells slots lr V
  exact lv_if_lt C.1 C.2.1 dd ht (fun h => kt h p l e R s m args below meth c D fz N0 C H locs cells slots lr V) (fun h => kf h p l e R s m args below meth c D fz N0 C H locs cells slots lr V)
theorem pw_icmp_lt {x y : Int32} {off : Int} (tgt : Nat) (dd : decode Y.2.2.1 pc = .ok (.if_icmp .lt off, 3)) (ht : (pc : Int) + off = (tgt : Int)) (kt : x < y → PW Y d P bc bs (tgt) ls (st) g n) (kf : ¬ x < y → PW Y d P bc bs (pc + 3) ls (st) g n) : PW Y d P bc bs (pc) ls (.int y :: .int x :: st) g n := by
  intro p l e R s m args below meth c D fz N0 C H locs cells slots lr V
  exact lv_icmp_lt C.1 C.2.1 dd ht (fun h => kt h p l e R s m args below meth c D fz N0 C H locs cells slots lr V) (fun h => kf h p l e R s m args below meth c D fz N0 C H locs cells slots lr V)
theorem pw_if_ge {x : Int32} {off : Int} (tgt : Nat) (dd : decode Y.2.2.1 pc = .ok (.ifCond .ge off, 3)) (ht : (pc : Int) + off = (tgt : Int)) (kt : 0 ≤ x → PW Y d P bc bs (tgt) ls (st) g n) (kf : ¬ 0 ≤ x → PW Y d P bc bs (pc + 3) ls (st) g n) : PW Y d P bc bs (pc) ls (.int x :: st) g n := by
  intro p l e R s m args below meth c D fz N0 C H locs cells slots lr V
  exact lv_if_ge C.1 C.2.1 dd ht (fun h => kt h p l e R s m args below meth c D fz N0 C H locs cells slots lr V) (fun h => kf h p l e R s m args below meth c D fz N0 C H locs cells slots lr V)
theorem pw_icmp_ge {x y : Int32} {off : Int} (tgt : Nat) (dd : decode Y.2.2.1 pc = .ok (.if_icmp .ge off, 3)) (ht : (pc : Int) + off = (tgt : Int)) (kt : y ≤ x → PW Y d P bc bs (tgt) ls (st) g n) (kf : ¬ y ≤ x → PW Y d P bc bs (pc + 3) ls (st) g n) : PW Y d P bc bs (pc) ls (.int y :: .int x :: st) g n := by
  intro p l e R s m args below meth c D fz N0 C H locs cells slots lr V
  exact lv_icmp_ge C.1 C.2.1 dd ht (fun h => kt h p l e R s m args below meth c D fz N0 C H locs cells slots lr V) (fun h => kf h p l e R s m args below meth c D fz N0 C H locs cells slots lr V)
theorem pw_if_gt {x : Int32} {off : Int} (tgt : Nat) (dd : decode Y.2.2.1 pc = .ok (.ifCond .gt off, 3)) (ht : (pc : Int) + off = (tgt : Int)) (kt : 0 < x → PW Y d P bc bs (tgt) ls (st) g n) (kf : ¬ 0 < x → PW Y d P bc bs (pc + 3) ls (st) g n) : PW Y d P bc bs (pc) ls (.int x :: st) g n := by
  intro p l e R s m args below meth c D fz N0 C H locs cells slots lr V
  exact lv_if_gt C.1 C.2.1 dd ht (fun h => kt h p l e R s m args below meth c D fz N0 C H locs cells slots lr V) (fun h => kf h p l e R s m args below meth c D fz N0 C H locs cells slots lr V)
theorem pw_icmp_gt {x y : Int32} {off : Int} (tgt : Nat) (dd : decode Y.2.2.1 pc = .ok (.if_icmp .gt off, 3)) (ht : (pc : Int) + off = (tgt : Int)) (kt : y < x → PW Y d P bc bs (tgt) ls (st) g n) (kf : ¬ y < x → PW Y d P bc bs (pc + 3) ls (st) g n) : PW Y d P bc bs (pc) ls (.int y :: .int x :: st) g n := by
  intro p l e R s m args below meth c D fz N0 C H locs cells slots lr V
  exact lv_icmp_gt C.1 C.2.1 dd ht (fun h => kt h p l e R s m args below meth c D fz N0 C H locs cells slots lr V) (fun h => kf h p l e R s m args below meth c D fz N0 C H locs cells slots lr V)
theorem pw_if_le {x : Int32} {off : Int} (tgt : Nat) (dd : decode Y.2.2.1 pc = .ok (.ifCond .le off, 3)) (ht : (pc : Int) + off = (tgt : Int)) (kt : x ≤ 0 → PW Y d P bc bs (tgt) ls (st) g n) (kf : ¬ x ≤ 0 → PW Y d P bc bs (pc + 3) ls (st) g n) : PW Y d P bc bs (pc) ls (.int x :: st) g n := by
  intro p l e R s m args below meth c D fz N0 C H locs cells slots lr V
  exact lv_if_le C.1 C.2.1 dd ht (fun h => kt h p l e R s m args below meth c D fz N0 C H locs cells slots lr V) (fun h => kf h p l e R s m args below meth c D fz N0 C H locs cells slots lr V)
theorem pw_icmp_le {x y : Int32} {off : Int} (tgt : Nat) (dd : decode Y.2.2.1 pc = .ok (.if_icmp .le off, 3)) (ht : (pc : Int) + off = (tgt : Int)) (kt : x ≤ y → PW Y d P bc bs (tgt) ls (st) g n) (kf : ¬ x ≤ y → PW Y d P bc bs (pc + 3) ls (st) g n) : PW Y d P bc bs (pc) ls (.int y :: .int x :: st) g n := by
  intro p l e R s m args below meth c D fz N0 C H locs cells slots lr V
  exact lv_icmp_le C.1 C.2.1 dd ht (fun h => kt h p l e R s m args below meth c D fz N0 C H locs cells slots lr V) (fun h => kf h p l e R s m args below meth c D fz N0 C H locs cells slots lr V)
theorem pw_goto {off : Int} (tgt : Nat) (dd : decode Y.2.2.1 pc = .ok (.goto off, 3)) (ht : (pc : Int) + off = (tgt : Int)) (k : PW Y d P bc bs (tgt) ls (st) g n) : PW Y d P bc bs (pc) ls (st) g n := by
  intro p l e R s m args below meth c D fz N0 C H locs cells slots lr V
  exact lv_goto C.1 C.2.1 dd ht (k p l e R s m args below meth c D fz N0 C H locs cells slots lr V)
theorem pw_ifnonnull {x : Nat} {off : Int} (tgt : Nat) (dd : decode Y.2.2.1 pc = .ok (.ifnonnull off, 3)) (ht : (pc : Int) + off = (tgt : Int)) (k : PW Y d P bc bs (tgt) ls (st) g n) : PW Y d P bc bs (pc) ls (.ref x :: st) g n := by
  intro p l e R s m args below meth c D fz N0 C H locs cells slots lr V
  exact lv_ifnonnull C.1 C.2.1 dd ht (k p l e R s m args below meth c D fz N0 C H locs cells slots lr V)
theorem pw_ifnonnullN {off : Int} (dd : decode Y.2.2.1 pc = .ok (.ifnonnull off, 3)) (k : PW Y d P bc bs (pc + 3) ls (st) g n) : PW Y d P bc bs (pc) ls (.null :: st) g n := by
  intro p l e R s m args below meth c D fz N0 C H locs cells slots lr V
  exact lv_ifnonnullN C.1 C.2.1 dd (k p l e R s m args below meth c D fz N0 C H locs cells slots lr V)
theorem pw_ifnull {x : Nat} {off : Int} (dd : decode Y.2.2.1 pc = .ok (.ifnull off, 3)) (k : PW Y d P bc bs (pc + 3) ls (st) g n) : PW Y d P bc bs (pc) ls (.ref x :: st) g n := by
  intro p l e R s m args below meth c D fz N0 C H locs cells slots lr V
  exact lv_ifnull C.1 C.2.1 dd (k p l e R s m args below meth c D fz N0 C H locs cells slots lr V)
theorem pw_ifnullN {off : Int} (tgt : Nat) (dd : decode Y.2.2.1 pc = .ok (.ifnull off, 3)) (ht : (pc : Int) + off = (tgt : Int)) (k : PW Y d P bc bs (tgt) ls (st) g n) : PW Y d P bc bs (pc) ls (.null :: st) g n := by
  intro p l e R s m args below meth c D fz N0 C H locs cells slots lr V
  exact lv_ifnullN C.1 C.2.1 dd ht (k p l e R s m args below meth c D fz N0 C H locs cells slots lr V)
theorem pw_lookup {dflt : Int} {ps : Array (Int × Int)} {len : Nat} {x : Int32} {off : Int} (tgt : Nat) (dd : decode Y.2.2.1 pc = .ok (.lookupswitch dflt ps, len)) (hp : (ps.toList.zip (ps.toList.drop 1)).all (fun (a, next) => a.1 < next.1) = true) (ho : Op.lookupswitch.offset ps.toList dflt x.toInt = off) (ht : (pc : Int) + off = (tgt : Int)) (k : PW Y d P bc bs (tgt) ls (st) g n) : PW Y d P bc bs (pc) ls (.int x :: st) g n := by
  intro p l e R s m args below meth c D fz N0 C H locs cells slots lr V
  exact lv_lookup C.1 C.2.1 dd hp ho ht (k p l e R s m args below meth c D fz N0 C H locs cells slots lr V)
theorem pw_tableOut {dflt lo hi : Int} {offs : Array Int} {len : Nat} {x : Int32} (tgt : Nat) (dd : decode Y.2.2.1 pc = .ok (.tableswitch dflt lo hi offs, len)) (h : x.toInt < lo ∨ hi < x.toInt) (ht : (pc : Int) + dflt = (tgt : Int)) (k : PW Y d P bc bs (tgt) ls (st) g n) : PW Y d P bc bs (pc) ls (.int x :: st) g n := by
  intro p l e R s m args below meth c D fz N0 C H locs cells slots lr V
  exact lv_tableOut C.1 C.2.1 dd h ht (k p l e R s m args below meth c D fz N0 C H locs cells slots lr V)
theorem pw_tableIn {dflt lo hi : Int} {offs : Array Int} {len : Nat} {x : Int32} {off : Int} (tgt : Nat) (dd : decode Y.2.2.1 pc = .ok (.tableswitch dflt lo hi offs, len)) (h1 : ¬ x.toInt < lo) (h2 : ¬ hi < x.toInt) (ho : offs[(x.toInt - lo).toNat]? = some off) (ht : (pc : Int) + off = (tgt : Int)) (k : PW Y d P bc bs (tgt) ls (st) g n) : PW Y d P bc bs (pc) ls (.int x :: st) g n := by
  intro p l e R s m args below meth c D fz N0 C H locs cells slots lr V
  exact lv_tableIn C.1 C.2.1 dd h1 h2 ho ht (k p l e R s m args below meth c D fz N0 C H locs cells slots lr V)
theorem pw_acmp_eq_n {x y : Nat} {off : Int} (dd : decode Y.2.2.1 pc = .ok (.if_acmp .eq off, 3)) (hxy : x ≠ y) (hk : zK ≤ x ∨ zK ≤ y) (tgt : Nat) (ht : (pc : Int) + off = (tgt : Int)) (k : PW Y d P bc bs (pc + 3) ls (st) g n) : PW Y d P bc bs (pc) ls (.ref y :: .ref x :: st) g n := by
  intro p l e R s m args below meth c D fz N0 C H locs cells slots lr V
  have hne : zr fz N0 x ≠ zr fz N0 y := by
    have hf := C.2.2.2.2.2.2.2.2.2.2.2.2.2.2.1
    rcases hk with h | h
    · exact fun q => zr_ne hf h hxy.symm q.symm
    · exact zr_ne hf h hxy
  exact lv_acmp_eq (rx := some (zr fz N0 x)) (ry := some (zr fz N0 y)) C.1 C.2.1 dd ht (fun h => absurd (Option.some.inj h) hne) (fun _ => k p l e R s m args below meth c D fz N0 C H locs cells slots lr V)
theorem pw_acmp_eq_s {x : Nat} {off : Int} (dd : decode Y.2.2.1 pc = .ok (.if_acmp .eq off, 3)) (tgt : Nat) (ht : (pc : Int) + off = (tgt : Int)) (k : PW Y d P bc bs (tgt) ls (st) g n) : PW Y d P bc bs (pc) ls (.ref x :: .ref x :: st) g n := by
  intro p l e R s m args below meth c D fz N0 C H locs cells slots lr V
  exact lv_acmp_eq (rx := some (zr fz N0 x)) (ry := some (zr fz N0 x)) C.1 C.2.1 dd ht (fun _ => k p l e R s m args below meth c D fz N0 C H locs cells slots lr V) (fun h => absurd rfl h)
theorem pw_acmp_ne_n {x y : Nat} {off : Int} (dd : decode Y.2.2.1 pc = .ok (.if_acmp .ne off, 3)) (hxy : x ≠ y) (hk : zK ≤ x ∨ zK ≤ y) (tgt : Nat) (ht : (pc : Int) + off = (tgt : Int)) (k : PW Y d P bc bs (tgt) ls (st) g n) : PW Y d P bc bs (pc) ls (.ref y :: .ref x :: st) g n := by
  intro p l e R s m args below meth c D fz N0 C H locs cells slots lr V
  have hne : zr fz N0 x ≠ zr fz N0 y := by
    have hf := C.2.2.2.2.2.2.2.2.2.2.2.2.2.2.1
    rcases hk with h | h
    · exact fun q => zr_ne hf h hxy.symm q.symm
    · exact zr_ne hf h hxy
  exact lv_acmp_ne (rx := some (zr fz N0 x)) (ry := some (zr fz N0 y)) C.1 C.2.1 dd ht (fun _ => k p l e R s m args below meth c D fz N0 C H locs cells slots lr V) (fun h => absurd (Option.some.inj h) hne)
theorem pw_acmp_ne_s {x : Nat} {off : Int} (dd : decode Y.2.2.1 pc = .ok (.if_acmp .ne off, 3)) (tgt : Nat) (ht : (pc : Int) + off = (tgt : Int)) (k : PW Y d P bc bs (pc + 3) ls (st) g n) : PW Y d P bc bs (pc) ls (.ref x :: .ref x :: st) g n := by
  intro p l e R s m args below meth c D fz N0 C H locs cells slots lr V
  exact lv_acmp_ne (rx := some (zr fz N0 x)) (ry := some (zr fz N0 x)) C.1 C.2.1 dd ht (fun h => absurd rfl h) (fun _ => k p l e R s m args below meth c D fz N0 C H locs cells slots lr V)
theorem pw_ls (ks : List Nat) {ls' : List (Nat × Value)} (hl : lv_pick ls ks = ls') (k : PW Y d P bc bs (pc) ls' (st) g n) : PW Y d P bc bs (pc) ls (st) g n := by
  intro p l e R s m args below meth c D fz N0 C H locs cells slots lr V
  refine k p l e R s m args below meth c D fz N0 C H locs cells slots lr ⟨V.1, V.2.1, lv_sub V.2.2.1 ks ?_, V.2.2.2.1, V.2.2.2.2⟩
  rw [← hl]
  simp [lv_pick, List.map_filterMap]
theorem pw_room {bc' bs' : Nat} (h1 : bc' ≤ bc) (h2 : bs' ≤ bs) (k : PW Y d P bc' bs' (pc) ls (st) g n) : PW Y d P bc bs (pc) ls (st) g n := by
  intro p l e R s m args below meth c D fz N0 C H locs cells slots lr V
  exact k p l e R s m args below meth c D fz N0 C H locs cells slots lr ⟨V.1, V.2.1, V.2.2.1, by have := V.2.2.2.1; omega, by have := V.2.2.2.2; omega⟩
theorem pw_deep {d' : Nat} (h : d' ≤ d) (k : PW Y d' P bc bs pc ls st g n) : PW Y d P bc bs pc ls st g n := by
  intro p l e R s m args below meth c D fz N0 C H locs cells slots lr V
  obtain ⟨c1, c2, c3, c4, c5, c6, c7, c8, c9, c10, c11, c12, c13⟩ := C
  exact k p l e R s m args below meth c D fz N0 ⟨c1, c2, c3, c4, c5, c6, c7, c8, c9, c10, by omega, by omega, c13⟩ H locs cells slots lr V
theorem pw_mono {P' : zP} (h : ∀ o g n, P' o g n → P o g n) (k : PW Y d P' bc bs pc ls st g n) : PW Y d P bc bs pc ls st g n := by
  intro p l e R s m args below meth c D fz N0 C H locs cells slots lr V T hT X
  obtain ⟨t, a, o, b1, b2, b3⟩ := k p l e R s m args below meth c D fz N0 C H locs cells slots lr V T hT X
  refine ⟨t, a, o, b1, b2, ?_⟩
  rcases b3 with ⟨⟨v, g1, n1, e1, e2, e3⟩, b4⟩ | ⟨q, e1, E, ce, L, ⟨a1, g1, n1, e2, e3, e4, e5⟩, b4⟩
  · exact Or.inl ⟨⟨v, g1, n1, e1, h _ _ _ e2, e3⟩, b4⟩
  · exact Or.inr ⟨q, e1, E, ce, L, ⟨a1, g1, n1, e2, e3, h _ _ _ e4, e5⟩, b4⟩
/-- what lies below is as it was -/
theorem pw_fz (k : zFz g n → PW Y d P bc bs pc ls st g n) : PW Y d P bc bs pc ls st g n := by
  intro p l e R s m args below meth c D fz N0 C H locs cells slots lr V
  exact k V.1.2.2.2.2 p l e R s m args below meth c D fz N0 C H locs cells slots lr V
/-- addresses that have a shape lie below the next one -/
theorem pw_lt (k : (∀ a, zsh g a ≠ none → a < znx g) → zK ≤ znx g → PW Y d P bc bs pc ls st g n) : PW Y d P bc bs pc ls st g n := by
  intro p l e R s m args below meth c D fz N0 C H locs cells slots lr V
  exact k V.1.2.2.1 V.1.1 p l e R s m args below meth c D fz N0 C H locs cells slots lr V
theorem pw_iret {x : Int32} (hr : Y.2.2.2.2.1 = some .int) (dd : decode Y.2.2.1 pc = .ok (.ireturn, 1)) (hp : P (.inl (some (.int x))) g n) : PW Y d P bc bs (pc) ls ([.int x]) g n := by
  intro p l e R s m args below meth c D fz N0 C H locs cells slots lr V
  refine vx_ret (W.widen (k := R.cells) (n := R.slots) (by have := V.2.2.2.1; omega) (by have := V.2.2.2.2; omega) ?_)
  exact W.iret C.1 C.2.1 (C.2.2.1.trans hr) (fun t ht hW => ⟨_, g, n, rfl, hp, by rw [ht]; exact V.1, V.2.1.F ht⟩) V.2.1.2.2 dd C.2.2.2.2.2.2.1
theorem pw_lret {x : Int64} (hr : Y.2.2.2.2.1 = some .long) (dd : decode Y.2.2.1 pc = .ok (.lreturn, 1)) (hp : P (.inl (some (.long x))) g n) : PW Y d P bc bs (pc) ls ([.long x]) g n := by
  intro p l e R s m args below meth c D fz N0 C H locs cells slots lr V
  refine vx_ret (W.widen (k := R.cells) (n := R.slots) (by have := V.2.2.2.1; omega) (by have := V.2.2.2.2; omega) ?_)
  exact W.lret C.1 C.2.1 (C.2.2.1.trans hr) (fun t ht hW => ⟨_, g, n, rfl, hp, by rw [ht]; exact V.1, V.2.1.F ht⟩) V.2.1.2.2 dd C.2.2.2.2.2.2.1
theorem pw_zret {x : Int32} (ty : FieldType) (hr : Y.2.2.2.2.1 = some ty) (hn : narrow ty (.int x) = .int x) (dd : decode Y.2.2.1 pc = .ok (.ireturn, 1)) (hp : P (.inl (some (.int x))) g n) : PW Y d P bc bs (pc) ls ([.int x]) g n := by
  intro p l e R s m args below meth c D fz N0 C H locs cells slots lr V
  refine vx_ret (W.widen (k := R.cells) (n := R.slots) (by have := V.2.2.2.1; omega) (by have := V.2.2.2.2; omega) ?_)
  exact W.zret C.1 C.2.1 (C.2.2.1.trans hr) hn (fun t ht hW => ⟨_, g, n, rfl, hp, by rw [ht]; exact V.1, V.2.1.F ht⟩) V.2.1.2.2 dd C.2.2.2.2.2.2.1
theorem pw_vret (hr : Y.2.2.2.2.1 = none) (dd : decode Y.2.2.1 pc = .ok (.return_, 1)) (hp : P (.inl none) g n) : PW Y d P bc bs (pc) ls ([]) g n := by
  intro p l e R s m args below meth c D fz N0 C H locs cells slots lr V
  refine vx_ret (W.widen (k := R.cells) (n := R.slots) (by have := V.2.2.2.1; omega) (by have := V.2.2.2.2; omega) ?_)
  exact W.vret C.1 C.2.1 (C.2.2.1.trans hr) (fun t ht hW => ⟨none, g, n, rfl, hp, by rw [ht]; exact V.1, V.2.1.F ht⟩) V.2.1.2.2 dd C.2.2.2.2.2.2.1
theorem pw_aret {x : Nat} (rt : FieldType) (hr : Y.2.2.2.2.1 = some rt) (hrt : (∃ n, rt = .object n) ∨ ∃ t, rt = .array t) (dd : decode Y.2.2.1 pc = .ok (.areturn, 1)) (hp : P (.inl (some (.ref x))) g n) : PW Y d P bc bs (pc) ls ([.ref x]) g n := by
  intro p l e R s m args below meth c D fz N0 C H locs cells slots lr V
  refine vx_ret (W.widen (k := R.cells) (n := R.slots) (by have := V.2.2.2.1; omega) (by have := V.2.2.2.2; omega) ?_)
  exact W.aret (v := .ref (zr fz N0 x)) C.1 C.2.1 (C.2.2.1.trans hr) hrt (Or.inr ⟨_, rfl⟩) (fun t ht hW => ⟨some (.ref x), g, n, rfl, hp, by rw [ht]; exact V.1, V.2.1.F ht⟩) V.2.1.2.2 dd C.2.2.2.2.2.2.1
end PWR
/-! ===== fields and arrays of the pure heap ===== -/
theorem zC.exec {Y : zY} {d : Nat} {p : Program} {l : Launch} {R : Room} {s : State} {m : MethodId} {args : Array Value} {meth : Method} {c : Code} {D : zD} {fz : Nat → Nat} {N0 : Nat} (C : zC Y d p l R s m args meth c D fz N0) : p.tables.exec = Jvm.exec := C.1
theorem zC.hts {Y : zY} {d : Nat} {p : Program} {l : Launch} {R : Room} {s : State} {m : MethodId} {args : Array Value} {meth : Method} {c : Code} {D : zD} {fz : Nat → Nat} {N0 : Nat} (C : zC Y d p l R s m args meth c D fz N0) : ∀ w ∈ lw_all, w.before args s = true := C.2.2.2.2.1
theorem zC.own {Y : zY} {d : Nat} {p : Program} {l : Launch} {R : Room} {s : State} {m : MethodId} {args : Array Value} {meth : Method} {c : Code} {D : zD} {fz : Nat → Nat} {N0 : Nat} (C : zC Y d p l R s m args meth c D fz N0) : s.vm.findClass Y.2.1 = some m.cls := C.2.2.2.2.2.1
theorem zC.env {Y : zY} {d : Nat} {p : Program} {l : Launch} {R : Room} {s : State} {m : MethodId} {args : Array Value} {meth : Method} {c : Code} {D : zD} {fz : Nat → Nat} {N0 : Nat} (C : zC Y d p l R s m args meth c D fz N0) : zEnv D fz N0 s := C.2.2.2.2.2.2.2.2.2.2.2.2
theorem zEnv.K {D : zD} {fz : Nat → Nat} {N0 : Nat} {s : State} (h : zEnv D fz N0 s) : va_K D.1 zCl [] s := h.1.1
theorem zEnv.lo {D : zD} {fz : Nat → Nat} {N0 : Nat} {s : State} (h : zEnv D fz N0 s) : ∀ a, a < zK → fz a < N0 := h.2.2.1
theorem zOB.own {own : Prop} {o : Nat} {cC : ClassId} {N : Nat} {iS : Nat → Nat} {H : Heap} {V : Nat → Value} (h : zOB own o cC N iS H V) (hO : own) : t_OB o cC N iS H V := by
  obtain ⟨cell, q1, q2, q3, q4, q5, q6⟩ := h
  exact ⟨cell, q1, q2, q3 hO, q6⟩
theorem zOB.of {own : Prop} {o : Nat} {cC : ClassId} {N : Nat} {iS : Nat → Nat} {H : Heap} {V : Nat → Value} (h : t_OB o cC N iS H V) : zOB own o cC N iS H V := by
  obtain ⟨cell, q1, q2, q3, q6⟩ := h
  exact ⟨cell, q1, q2, fun _ => q3, (by rw [q3]; rfl), (by rw [q3]; exact fun h => nomatch h), q6⟩
theorem zAR.of {own : Prop} {o : Nat} {cA : ClassId} {len : Nat} {H : Heap} {f : Nat → Value} (h : H[o]? = some (arrV cA len f)) : zAR own o cA len H f :=
  ⟨_, h, fun _ => rfl, rfl, rfl, (fun q => nomatch q), arrV_size _ _ _, fun j hj => arrV_read _ _ hj⟩
theorem zAt.obj {D : zD} {ρ : Nat → Nat} {g : zg_G} {n : zg_N} {a ci : Nat} {H : Heap} {C : String} {T : u_T} {N : Nat} {ty0 : Nat → FieldType} (h : zAt D ρ g n a H) (hs : zsh g a = some (.inl ci)) (hcf : zCF C T N ci ty0) : zOB (zK ≤ a) (ρ a) (D.1.1 ci) N (D.1.2 ci) H (fun k => zfv ρ g n (ty0 k) a k) := by
  unfold zAt at h
  rw [hs] at h
  obtain ⟨r, h1, h2⟩ := h
  have hr : r = (C, T, N) := Option.some.inj (h1.symm.trans hcf.1)
  subst hr
  rw [show (fun k => zfv ρ g n (ty0 k) a k) = (fun k => zfv ρ g n (zty ci k) a k) from funext fun k => by rw [hcf.ty]]
  exact h2
theorem zAt.ofObj {D : zD} {ρ : Nat → Nat} {g : zg_G} {n : zg_N} {a ci : Nat} {H : Heap} {C : String} {T : u_T} {N : Nat} {ty0 : Nat → FieldType} (hs : zsh g a = some (.inl ci)) (hcf : zCF C T N ci ty0) (h : t_OB (ρ a) (D.1.1 ci) N (D.1.2 ci) H (fun k => zfv ρ g n (ty0 k) a k)) : zAt D ρ g n a H := by
  unfold zAt
  rw [hs]
  exact ⟨_, hcf.1, zOB.of (h.to (fun k _ => by rw [hcf.ty]))⟩
theorem zAt.arr {D : zD} {ρ : Nat → Nat} {g : zg_G} {n : zg_N} {a kd len : Nat} {H : Heap} {ty : FieldType} (h : zAt D ρ g n a H) (hs : zsh g a = some (.inr (kd, len))) (hk : zAk[kd]? = some ty) : zAR (zK ≤ a) (ρ a) (D.2 kd) len H (fun j => zev ρ g n ty a j) := by
  unfold zAt at h
  rw [hs] at h
  obtain ⟨ty', h1, h2⟩ := h
  cases h1.symm.trans hk
  exact h2
theorem zAt.ofArr {D : zD} {ρ : Nat → Nat} {g : zg_G} {n : zg_N} {a kd len : Nat} {H : Heap} {ty : FieldType} (hs : zsh g a = some (.inr (kd, len))) (hk : zAk[kd]? = some ty) (h : H[ρ a]? = some (arrV (D.2 kd) len (fun j => zev ρ g n ty a j))) : zAt D ρ g n a H := by
  unfold zAt
  rw [hs]
  exact ⟨_, hk, zAR.of h⟩
theorem zK_ty {D : zD} {fz : Nat → Nat} {N0 : Nat} {s : State} {kd : Nat} {ty : FieldType} (hE : zEnv D fz N0 s) (hk : zAk[kd]? = some ty) : ArrOfT s (D.2 kd) ty := (hE.1.2 kd ty hk).1
theorem zArr_is {s : State} {cA : ClassId} {ty : FieldType} {cell : Cell} (h : ArrOfT s cA ty) (hc : cell.cls = cA) (hv : cell.vm.isStatics = false) : s.isArrayOf cell ty := by
  obtain ⟨-, k, h1, h2⟩ := h 0 (fun _ => .null)
  exact ⟨fun q hq => (by rw [hq] at hv; cases hv), k, (by rw [hc]; exact h1), h2⟩
section PWH
variable {Y : zY} {d : Nat} {P : zP} {bc bs pc : Nat} {ls : List (Nat × Value)} {st : List Value} {g : zg_G} {n : zg_N}
variable {C9 : String} {T9 : u_T} {N9 ci a : Nat} {ty0 : Nat → FieldType}
theorem pw_geti {idx : Nat} (k : Nat) (hcf : zCF C9 T9 N9 ci ty0) (hs : zsh g a = some (.inl ci)) (hk : k < N9) (hlink : Cond.fieldLink Y.2.1 idx (T9 k).1 (T9 k).2.1 (T9 k).2.2.1 ∈ lw_all) (hty : ty0 k = .int ∨ ty0 k = .boolean ∨ ty0 k = .byte) (dd : decode Y.2.2.1 pc = .ok (.getfield idx, 3)) (kk : PW Y d P bc bs (pc + 3) ls (.int (zfi n a k) :: st) g n) : PW Y d P bc bs pc ls (.ref a :: st) g n := by
  intro p l e R s m args below meth c D fz N0 C H locs cells slots lr V
  refine zw_get C.1 C.2.1 C.hts hcf C.own C.env.K ((V.1.2.2.2.1 a).obj hs hcf) k hk (C.hts _ hlink) (fun _ h => h) dd ?_
  rw [show zfv (zr fz N0) g n (ty0 k) a k = .int (zfi n a k) from by rcases hty with h | h | h <;> rw [h] <;> rfl]
  exact kk p l e R s m args below meth c D fz N0 C H locs cells slots lr V
theorem pw_getl {idx : Nat} (k : Nat) (hcf : zCF C9 T9 N9 ci ty0) (hs : zsh g a = some (.inl ci)) (hk : k < N9) (hlink : Cond.fieldLink Y.2.1 idx (T9 k).1 (T9 k).2.1 (T9 k).2.2.1 ∈ lw_all) (hty : ty0 k = .long) (dd : decode Y.2.2.1 pc = .ok (.getfield idx, 3)) (kk : PW Y d P bc bs (pc + 3) ls (.long (zfl n a k) :: st) g n) : PW Y d P bc bs pc ls (.ref a :: st) g n := by
  intro p l e R s m args below meth c D fz N0 C H locs cells slots lr V
  refine zw_get C.1 C.2.1 C.hts hcf C.own C.env.K ((V.1.2.2.2.1 a).obj hs hcf) k hk (C.hts _ hlink) (fun _ h => h) dd ?_
  rw [show zfv (zr fz N0) g n (ty0 k) a k = .long (zfl n a k) from by rw [hty]; rfl]
  exact kk p l e R s m args below meth c D fz N0 C H locs cells slots lr V
theorem pw_getr {idx : Nat} (k : Nat) (hcf : zCF C9 T9 N9 ci ty0) (hs : zsh g a = some (.inl ci)) (hk : k < N9) (hlink : Cond.fieldLink Y.2.1 idx (T9 k).1 (T9 k).2.1 (T9 k).2.2.1 ∈ lw_all) {b : Nat} (hty : (∃ z, ty0 k = .object z) ∨ ∃ z, ty0 k = .array z) (hv : zfr g a k = some b) (dd : decode Y.2.2.1 pc = .ok (.getfield idx, 3)) (kk : PW Y d P bc bs (pc + 3) ls (.ref b :: st) g n) : PW Y d P bc bs pc ls (.ref a :: st) g n := by
  intro p l e R s m args below meth c D fz N0 C H locs cells slots lr V
  refine zw_get C.1 C.2.1 C.hts hcf C.own C.env.K ((V.1.2.2.2.1 a).obj hs hcf) k hk (C.hts _ hlink) (fun _ h => h) dd ?_
  rw [show zfv (zr fz N0) g n (ty0 k) a k = zv_tr (zr fz N0) (.ref b) from by rcases hty with ⟨z, h⟩ | ⟨z, h⟩ <;> rw [h] <;> simp [zfv, hv, va_rf, zv_tr]]
  exact kk p l e R s m args below meth c D fz N0 C H locs cells slots lr V
theorem pw_getr0 {idx : Nat} (k : Nat) (hcf : zCF C9 T9 N9 ci ty0) (hs : zsh g a = some (.inl ci)) (hk : k < N9) (hlink : Cond.fieldLink Y.2.1 idx (T9 k).1 (T9 k).2.1 (T9 k).2.2.1 ∈ lw_all) (hty : (∃ z, ty0 k = .object z) ∨ ∃ z, ty0 k = .array z) (hv : zfr g a k = none) (dd : decode Y.2.2.1 pc = .ok (.getfield idx, 3)) (kk : PW Y d P bc bs (pc + 3) ls (.null :: st) g n) : PW Y d P bc bs pc ls (.ref a :: st) g n := by
  intro p l e R s m args below meth c D fz N0 C H locs cells slots lr V
  refine zw_get C.1 C.2.1 C.hts hcf C.own C.env.K ((V.1.2.2.2.1 a).obj hs hcf) k hk (C.hts _ hlink) (fun _ h => h) dd ?_
  rw [show zfv (zr fz N0) g n (ty0 k) a k = .null from by rcases hty with ⟨z, h⟩ | ⟨z, h⟩ <;> rw [h] <;> simp [zfv, hv, va_rf]]
  exact kk p l e R s m args below meth c D fz N0 C H locs cells slots lr V
theorem pw_getiN {idx : Nat} (k : Nat) (hcf : zCF C9 T9 N9 ci ty0) (hs : zsh g a = some (.inl ci)) (hk : k < N9) {host : String} (hlink : Cond.fieldLinkNest Y.2.1 idx (T9 k).1 (T9 k).2.1 (T9 k).2.2.1 host ∈ lw_tbl) (hty : ty0 k = .int ∨ ty0 k = .boolean ∨ ty0 k = .byte) (dd : decode Y.2.2.1 pc = .ok (.getfield idx, 3)) (kk : PW Y d P bc bs (pc + 3) ls (.int (zfi n a k) :: st) g n) : PW Y d P bc bs pc ls (.ref a :: st) g n := by
  intro p l e R s m args below meth c D fz N0 C H locs cells slots lr V
  refine zw_getN C.1 C.2.1 C.hts hcf C.own C.env.K ((V.1.2.2.2.1 a).obj hs hcf) k hk (va_Nw.use rfl (C.env.2.2.2.2.1 _ hlink rfl)) (fun _ h => h) dd ?_
  rw [show zfv (zr fz N0) g n (ty0 k) a k = .int (zfi n a k) from by rcases hty with h | h | h <;> rw [h] <;> rfl]
  exact kk p l e R s m args below meth c D fz N0 C H locs cells slots lr V
theorem pw_getlN {idx : Nat} (k : Nat) (hcf : zCF C9 T9 N9 ci ty0) (hs : zsh g a = some (.inl ci)) (hk : k < N9) {host : String} (hlink : Cond.fieldLinkNest Y.2.1 idx (T9 k).1 (T9 k).2.1 (T9 k).2.2.1 host ∈ lw_tbl) (hty : ty0 k = .long) (dd : decode Y.2.2.1 pc = .ok (.getfield idx, 3)) (kk : PW Y d P bc bs (pc + 3) ls (.long (zfl n a k) :: st) g n) : PW Y d P bc bs pc ls (.ref a :: st) g n := by
  intro p l e R s m args below meth c D fz N0 C H locs cells slots lr V
  refine zw_getN C.1 C.2.1 C.hts hcf C.own C.env.K ((V.1.2.2.2.1 a).obj hs hcf) k hk (va_Nw.use rfl (C.env.2.2.2.2.1 _ hlink rfl)) (fun _ h => h) dd ?_
  rw [show zfv (zr fz N0) g n (ty0 k) a k = .long (zfl n a k) from by rw [hty]; rfl]
  exact kk p l e R s m args below meth c D fz N0 C H locs cells slots lr V
theorem pw_getrN {idx : Nat} (k : Nat) (hcf : zCF C9 T9 N9 ci ty0) (hs : zsh g a = some (.inl ci)) (hk : k < N9) {host : String} (hlink : Cond.fieldLinkNest Y.2.1 idx (T9 k).1 (T9 k).2.1 (T9 k).2.2.1 host ∈ lw_tbl) {b : Nat} (hty : (∃ z, ty0 k = .object z) ∨ ∃ z, ty0 k = .array z) (hv : zfr g a k = some b) (dd : decode Y.2.2.1 pc = .ok (.getfield idx, 3)) (kk : PW Y d P bc bs (pc + 3) ls (.ref b :: st) g n) : PW Y d P bc bs pc ls (.ref a :: st) g n := by
  intro p l e R s m args below meth c D fz N0 C H locs cells slots lr V
  refine zw_getN C.1 C.2.1 C.hts hcf C.own C.env.K ((V.1.2.2.2.1 a).obj hs hcf) k hk (va_Nw.use rfl (C.env.2.2.2.2.1 _ hlink rfl)) (fun _ h => h) dd ?_
  rw [show zfv (zr fz N0) g n (ty0 k) a k = zv_tr (zr fz N0) (.ref b) from by rcases hty with ⟨z, h⟩ | ⟨z, h⟩ <;> rw [h] <;> simp [zfv, hv, va_rf, zv_tr]]
  exact kk p l e R s m args below meth c D fz N0 C H locs cells slots lr V
theorem pw_getr0N {idx : Nat} (k : Nat) (hcf : zCF C9 T9 N9 ci ty0) (hs : zsh g a = some (.inl ci)) (hk : k < N9) {host : String} (hlink : Cond.fieldLinkNest Y.2.1 idx (T9 k).1 (T9 k).2.1 (T9 k).2.2.1 host ∈ lw_tbl) (hty : (∃ z, ty0 k = .object z) ∨ ∃ z, ty0 k = .array z) (hv : zfr g a k = none) (dd : decode Y.2.2.1 pc = .ok (.getfield idx, 3)) (kk : PW Y d P bc bs (pc + 3) ls (.null :: st) g n) : PW Y d P bc bs pc ls (.ref a :: st) g n := by
  intro p l e R s m args below meth c D fz N0 C H locs cells slots lr V
  refine zw_getN C.1 C.2.1 C.hts hcf C.own C.env.K ((V.1.2.2.2.1 a).obj hs hcf) k hk (va_Nw.use rfl (C.env.2.2.2.2.1 _ hlink rfl)) (fun _ h => h) dd ?_
  rw [show zfv (zr fz N0) g n (ty0 k) a k = .null from by rcases hty with ⟨z, h⟩ | ⟨z, h⟩ <;> rw [h] <;> simp [zfv, hv, va_rf]]
  exact kk p l e R s m args below meth c D fz N0 C H locs cells slots lr V
theorem pw_puti {idx : Nat} (k : Nat) (hcf : zCF C9 T9 N9 ci ty0) (hs : zsh g a = some (.inl ci)) (ha : zK ≤ a) (hk : k < N9) (hlink : Cond.fieldLink Y.2.1 idx (T9 k).1 (T9 k).2.1 (T9 k).2.2.1 ∈ lw_all) (hfin : (T9 k).2.2.2 = false) {x : Int32} (hty : ty0 k = .int ∨ ty0 k = .boolean ∨ ty0 k = .byte) (hn : narrow (ty0 k) (.int x) = .int x) (hfi : fits (ty0 k) (.int x) = true) (dd : decode Y.2.2.1 pc = .ok (.putfield idx, 3)) (kk : PW Y d P bc bs (pc + 3) ls st g (zpfi n a k x)) : PW Y d P bc bs pc ls (.int x :: .ref a :: st) g n := by
  intro p l e R s m args below meth c D fz N0 C H locs cells slots lr V
  refine zw_put C.1 C.2.1 C.hts hcf C.own C.env.K (((V.1.2.2.2.1 a).obj hs hcf).own ha) k hk (C.hts _ hlink) (fun _ h => h) hfin (v := (.int x)) hn hfi dd (fun H1 e1 z oq => ?_)
  refine kk p l e R s m args below meth c D fz N0 C H1 _ cells slots lr ⟨V.1.put C.env.lo ha (fun _ => rfl) rfl (fun b hb => ⟨fun _ => rfl, fun _ => rfl, fun _ => zu2_b hb, fun _ => rfl, fun _ => rfl, fun _ => rfl⟩) z oq (zAt.ofObj (g := g) (n := (zpfi n a k x)) hs hcf (e1.to (fun j hj => ?_))), zS.put V.2.1 z oq ha, V.2.2⟩
  by_cases h : j = k
  · subst h
    rw [show updV (fun k => zfv (zr fz N0) g n (ty0 k) a k) j (.int x) j = (.int x) from if_pos rfl]
    rcases hty with h | h | h <;> rw [h] <;> simp only [zfv, zfi, zpfi, zu2, and_self, if_true]
  · rw [show updV (fun k => zfv (zr fz N0) g n (ty0 k) a k) k (.int x) j = zfv (zr fz N0) g n (ty0 j) a j from if_neg h]
    cases ty0 j <;> simp only [zfv, zfi, zfl, zfr, zpfi, zpfl, zpfr, zu2, h, and_false, if_false]
theorem pw_putl {idx : Nat} (k : Nat) (hcf : zCF C9 T9 N9 ci ty0) (hs : zsh g a = some (.inl ci)) (ha : zK ≤ a) (hk : k < N9) (hlink : Cond.fieldLink Y.2.1 idx (T9 k).1 (T9 k).2.1 (T9 k).2.2.1 ∈ lw_all) (hfin : (T9 k).2.2.2 = false) {x : Int64} (hty : ty0 k = .long) (dd : decode Y.2.2.1 pc = .ok (.putfield idx, 3)) (kk : PW Y d P bc bs (pc + 3) ls st g (zpfl n a k x)) : PW Y d P bc bs pc ls (.long x :: .ref a :: st) g n := by
  intro p l e R s m args below meth c D fz N0 C H locs cells slots lr V
  refine zw_put C.1 C.2.1 C.hts hcf C.own C.env.K (((V.1.2.2.2.1 a).obj hs hcf).own ha) k hk (C.hts _ hlink) (fun _ h => h) hfin (v := (.long x)) (by rw [hty]; rfl) (by rw [hty]; rfl) dd (fun H1 e1 z oq => ?_)
  refine kk p l e R s m args below meth c D fz N0 C H1 _ cells slots lr ⟨V.1.put C.env.lo ha (fun _ => rfl) rfl (fun b hb => ⟨fun _ => rfl, fun _ => rfl, fun _ => rfl, fun _ => zu2_b hb, fun _ => rfl, fun _ => rfl⟩) z oq (zAt.ofObj (g := g) (n := (zpfl n a k x)) hs hcf (e1.to (fun j hj => ?_))), zS.put V.2.1 z oq ha, V.2.2⟩
  by_cases h : j = k
  · subst h
    rw [show updV (fun k => zfv (zr fz N0) g n (ty0 k) a k) j (.long x) j = (.long x) from if_pos rfl]
    rw [hty]; simp only [zfv, zfl, zpfl, zu2, and_self, if_true]
  · rw [show updV (fun k => zfv (zr fz N0) g n (ty0 k) a k) k (.long x) j = zfv (zr fz N0) g n (ty0 j) a j from if_neg h]
    cases ty0 j <;> simp only [zfv, zfi, zfl, zfr, zpfi, zpfl, zpfr, zu2, h, and_false, if_false]
theorem pw_putr {idx : Nat} (k : Nat) (hcf : zCF C9 T9 N9 ci ty0) (hs : zsh g a = some (.inl ci)) (ha : zK ≤ a) (hk : k < N9) (hlink : Cond.fieldLink Y.2.1 idx (T9 k).1 (T9 k).2.1 (T9 k).2.2.1 ∈ lw_all) (hfin : (T9 k).2.2.2 = false) {x : Nat} (hty : (∃ z, ty0 k = .object z) ∨ ∃ z, ty0 k = .array z) (dd : decode Y.2.2.1 pc = .ok (.putfield idx, 3)) (kk : PW Y d P bc bs (pc + 3) ls st (zpfr g a k (some x)) n) : PW Y d P bc bs pc ls (.ref x :: .ref a :: st) g n := by
  intro p l e R s m args below meth c D fz N0 C H locs cells slots lr V
  refine zw_put C.1 C.2.1 C.hts hcf C.own C.env.K (((V.1.2.2.2.1 a).obj hs hcf).own ha) k hk (C.hts _ hlink) (fun _ h => h) hfin (v := (.ref (zr fz N0 x))) (by rcases hty with ⟨z, h⟩ | ⟨z, h⟩ <;> rw [h] <;> rfl) (by rcases hty with ⟨z, h⟩ | ⟨z, h⟩ <;> rw [h] <;> rfl) dd (fun H1 e1 z oq => ?_)
  refine kk p l e R s m args below meth c D fz N0 C H1 _ cells slots lr ⟨V.1.put C.env.lo ha (fun _ => rfl) rfl (fun b hb => ⟨fun _ => zu2_b hb, fun _ => rfl, fun _ => rfl, fun _ => rfl, fun _ => rfl, fun _ => rfl⟩) z oq (zAt.ofObj (g := (zpfr g a k (some x))) (n := n) hs hcf (e1.to (fun j hj => ?_))), zS.put V.2.1 z oq ha, V.2.2⟩
  by_cases h : j = k
  · subst h
    rw [show updV (fun k => zfv (zr fz N0) g n (ty0 k) a k) j (.ref (zr fz N0 x)) j = (.ref (zr fz N0 x)) from if_pos rfl]
    rcases hty with ⟨z, h⟩ | ⟨z, h⟩ <;> rw [h] <;> simp only [zfv, zfr, zpfr, zu2, and_self, if_true, Option.map, va_rf]
  · rw [show updV (fun k => zfv (zr fz N0) g n (ty0 k) a k) k (.ref (zr fz N0 x)) j = zfv (zr fz N0) g n (ty0 j) a j from if_neg h]
    cases ty0 j <;> simp only [zfv, zfi, zfl, zfr, zpfi, zpfl, zpfr, zu2, h, and_false, if_false]
theorem pw_putr0 {idx : Nat} (k : Nat) (hcf : zCF C9 T9 N9 ci ty0) (hs : zsh g a = some (.inl ci)) (ha : zK ≤ a) (hk : k < N9) (hlink : Cond.fieldLink Y.2.1 idx (T9 k).1 (T9 k).2.1 (T9 k).2.2.1 ∈ lw_all) (hfin : (T9 k).2.2.2 = false) (hty : (∃ z, ty0 k = .object z) ∨ ∃ z, ty0 k = .array z) (dd : decode Y.2.2.1 pc = .ok (.putfield idx, 3)) (kk : PW Y d P bc bs (pc + 3) ls st (zpfr g a k none) n) : PW Y d P bc bs pc ls (.null :: .ref a :: st) g n := by
  intro p l e R s m args below meth c D fz N0 C H locs cells slots lr V
  refine zw_put C.1 C.2.1 C.hts hcf C.own C.env.K (((V.1.2.2.2.1 a).obj hs hcf).own ha) k hk (C.hts _ hlink) (fun _ h => h) hfin (v := .null) (by rcases hty with ⟨z, h⟩ | ⟨z, h⟩ <;> rw [h] <;> rfl) (by rcases hty with ⟨z, h⟩ | ⟨z, h⟩ <;> rw [h] <;> rfl) dd (fun H1 e1 z oq => ?_)
  refine kk p l e R s m args below meth c D fz N0 C H1 _ cells slots lr ⟨V.1.put C.env.lo ha (fun _ => rfl) rfl (fun b hb => ⟨fun _ => zu2_b hb, fun _ => rfl, fun _ => rfl, fun _ => rfl, fun _ => rfl, fun _ => rfl⟩) z oq (zAt.ofObj (g := (zpfr g a k none)) (n := n) hs hcf (e1.to (fun j hj => ?_))), zS.put V.2.1 z oq ha, V.2.2⟩
  by_cases h : j = k
  · subst h
    rw [show updV (fun k => zfv (zr fz N0) g n (ty0 k) a k) j .null j = .null from if_pos rfl]
    rcases hty with ⟨z, h⟩ | ⟨z, h⟩ <;> rw [h] <;> simp only [zfv, zfr, zpfr, zu2, and_self, if_true, Option.map, va_rf]
  · rw [show updV (fun k => zfv (zr fz N0) g n (ty0 k) a k) k .null j = zfv (zr fz N0) g n (ty0 j) a j from if_neg h]
    cases ty0 j <;> simp only [zfv, zfi, zfl, zfr, zpfi, zpfl, zpfr, zu2, h, and_false, if_false]
theorem pw_putiF {idx : Nat} (k : Nat) (hcf : zCF C9 T9 N9 ci ty0) (hs : zsh g a = some (.inl ci)) (ha : zK ≤ a) (hk : k < N9) (hlink : Cond.fieldLink Y.2.1 idx (T9 k).1 (T9 k).2.1 (T9 k).2.2.1 ∈ lw_all) (hfin : (T9 k).2.2.2 = true) (hini : Y.1.name = "<init>") (hdecl : (T9 k).1 = Y.2.1) {x : Int32} (hty : ty0 k = .int ∨ ty0 k = .boolean ∨ ty0 k = .byte) (hn : narrow (ty0 k) (.int x) = .int x) (hfi : fits (ty0 k) (.int x) = true) (dd : decode Y.2.2.1 pc = .ok (.putfield idx, 3)) (kk : PW Y d P bc bs (pc + 3) ls st g (zpfi n a k x)) : PW Y d P bc bs pc ls (.int x :: .ref a :: st) g n := by
  intro p l e R s m args below meth c D fz N0 C H locs cells slots lr V
  refine zw_putF C.1 C.2.1 C.hts hcf C.own C.env.K (((V.1.2.2.2.1 a).obj hs hcf).own ha) k hk (C.hts _ hlink) (fun _ h => h) hfin (C.2.2.2.2.2.2.2.1.trans hini) hdecl (v := (.int x)) hn hfi dd (fun H1 e1 z oq => ?_)
  refine kk p l e R s m args below meth c D fz N0 C H1 _ cells slots lr ⟨V.1.put C.env.lo ha (fun _ => rfl) rfl (fun b hb => ⟨fun _ => rfl, fun _ => rfl, fun _ => zu2_b hb, fun _ => rfl, fun _ => rfl, fun _ => rfl⟩) z oq (zAt.ofObj (g := g) (n := (zpfi n a k x)) hs hcf (e1.to (fun j hj => ?_))), zS.put V.2.1 z oq ha, V.2.2⟩
  by_cases h : j = k
  · subst h
    rw [show updV (fun k => zfv (zr fz N0) g n (ty0 k) a k) j (.int x) j = (.int x) from if_pos rfl]
    rcases hty with h | h | h <;> rw [h] <;> simp only [zfv, zfi, zpfi, zu2, and_self, if_true]
  · rw [show updV (fun k => zfv (zr fz N0) g n (ty0 k) a k) k (.int x) j = zfv (zr fz N0) g n (ty0 j) a j from if_neg h]
    cases ty0 j <;> simp only [zfv, zfi, zfl, zfr, zpfi, zpfl, zpfr, zu2, h, and_false, if_false]
theorem pw_putlF {idx : Nat} (k : Nat) (hcf : zCF C9 T9 N9 ci ty0) (hs : zsh g a = some (.inl ci)) (ha : zK ≤ a) (hk : k < N9) (hlink : Cond.fieldLink Y.2.1 idx (T9 k).1 (T9 k).2.1 (T9 k).2.2.1 ∈ lw_all) (hfin : (T9 k).2.2.2 = true) (hini : Y.1.name = "<init>") (hdecl : (T9 k).1 = Y.2.1) {x : Int64} (hty : ty0 k = .long) (dd : decode Y.2.2.1 pc = .ok (.putfield idx, 3)) (kk : PW Y d P bc bs (pc + 3) ls st g (zpfl n a k x)) : PW Y d P bc bs pc ls (.long x :: .ref a :: st) g n := by
  intro p l e R s m args below meth c D fz N0 C H locs cells slots lr V
  refine zw_putF C.1 C.2.1 C.hts hcf C.own C.env.K (((V.1.2.2.2.1 a).obj hs hcf).own ha) k hk (C.hts _ hlink) (fun _ h => h) hfin (C.2.2.2.2.2.2.2.1.trans hini) hdecl (v := (.long x)) (by rw [hty]; rfl) (by rw [hty]; rfl) dd (fun H1 e1 z oq => ?_)
  refine kk p l e R s m args below meth c D fz N0 C H1 _ cells slots lr ⟨V.1.put C.env.lo ha (fun _ => rfl) rfl (fun b hb => ⟨fun _ => rfl, fun _ => rfl, fun _ => rfl, fun _ => zu2_b hb, fun _ => rfl, fun _ => rfl⟩) z oq (zAt.ofObj (g := g) (n := (zpfl n a k x)) hs hcf (e1.to (fun j hj => ?_))), zS.put V.2.1 z oq ha, V.2.2⟩
  by_cases h : j = k
  · subst h
    rw [show updV (fun k => zfv (zr fz N0) g n (ty0 k) a k) j (.long x) j = (.long x) from if_pos rfl]
    rw [hty]; simp only [zfv, zfl, zpfl, zu2, and_self, if_true]
  · rw [show updV (fun k => zfv (zr fz N0) g n (ty0 k) a k) k (.long x) j = zfv (zr fz N0) g n (ty0 j) a j from if_neg h]
    cases ty0 j <;> simp only [zfv, zfi, zfl, zfr, zpfi, zpfl, zpfr, zu2, h, and_false, if_false]
theorem pw_putrF {idx : Nat} (k : Nat) (hcf : zCF C9 T9 N9 ci ty0) (hs : zsh g a = some (.inl ci)) (ha : zK ≤ a) (hk : k < N9) (hlink : Cond.fieldLink Y.2.1 idx (T9 k).1 (T9 k).2.1 (T9 k).2.2.1 ∈ lw_all) (hfin : (T9 k).2.2.2 = true) (hini : Y.1.name = "<init>") (hdecl : (T9 k).1 = Y.2.1) {x : Nat} (hty : (∃ z, ty0 k = .object z) ∨ ∃ z, ty0 k = .array z) (dd : decode Y.2.2.1 pc = .ok (.putfield idx, 3)) (kk : PW Y d P bc bs (pc + 3) ls st (zpfr g a k (some x)) n) : PW Y d P bc bs pc ls (.ref x :: .ref a :: st) g n := by
  intro p l e R s m args below meth c D fz N0 C H locs cells slots lr V
  refine zw_putF C.1 C.2.1 C.hts hcf C.own C.env.K (((V.1.2.2.2.1 a).obj hs hcf).own ha) k hk (C.hts _ hlink) (fun _ h => h) hfin (C.2.2.2.2.2.2.2.1.trans hini) hdecl (v := (.ref (zr fz N0 x))) (by rcases hty with ⟨z, h⟩ | ⟨z, h⟩ <;> rw [h] <;> rfl) (by rcases hty with ⟨z, h⟩ | ⟨z, h⟩ <;> rw [h] <;> rfl) dd (fun H1 e1 z oq => ?_)
  refine kk p l e R s m args below meth c D fz N0 C H1 _ cells slots lr ⟨V.1.put C.env.lo ha (fun _ => rfl) rfl (fun b hb => ⟨fun _ => zu2_b hb, fun _ => rfl, fun _ => rfl, fun _ => rfl, fun _ => rfl, fun _ => rfl⟩) z oq (zAt.ofObj (g := (zpfr g a k (some x))) (n := n) hs hcf (e1.to (fun j hj => ?_))), zS.put V.2.1 z oq ha, V.2.2⟩
  by_cases h : j = k
  · subst h
    rw [show updV (fun k => zfv (zr fz N0) g n (ty0 k) a k) j (.ref (zr fz N0 x)) j = (.ref (zr fz N0 x)) from if_pos rfl]
    rcases hty with ⟨z, h⟩ | ⟨z, h⟩ <;> rw [h] <;> simp only [zfv, zfr, zpfr, zu2, and_self, if_true, Option.map, va_rf]
  · rw [show updV (fun k => zfv (zr fz N0) g n (ty0 k) a k) k (.ref (zr fz N0 x)) j = zfv (zr fz N0) g n (ty0 j) a j from if_neg h]
    cases ty0 j <;> simp only [zfv, zfi, zfl, zfr, zpfi, zpfl, zpfr, zu2, h, and_false, if_false]
theorem pw_putr0F {idx : Nat} (k : Nat) (hcf : zCF C9 T9 N9 ci ty0) (hs : zsh g a = some (.inl ci)) (ha : zK ≤ a) (hk : k < N9) (hlink : Cond.fieldLink Y.2.1 idx (T9 k).1 (T9 k).2.1 (T9 k).2.2.1 ∈ lw_all) (hfin : (T9 k).2.2.2 = true) (hini : Y.1.name = "<init>") (hdecl : (T9 k).1 = Y.2.1) (hty : (∃ z, ty0 k = .object z) ∨ ∃ z, ty0 k = .array z) (dd : decode Y.2.2.1 pc = .ok (.putfield idx, 3)) (kk : PW Y d P bc bs (pc + 3) ls st (zpfr g a k none) n) : PW Y d P bc bs pc ls (.null :: .ref a :: st) g n := by
  intro p l e R s m args below meth c D fz N0 C H locs cells slots lr V
  refine zw_putF C.1 C.2.1 C.hts hcf C.own C.env.K (((V.1.2.2.2.1 a).obj hs hcf).own ha) k hk (C.hts _ hlink) (fun _ h => h) hfin (C.2.2.2.2.2.2.2.1.trans hini) hdecl (v := .null) (by rcases hty with ⟨z, h⟩ | ⟨z, h⟩ <;> rw [h] <;> rfl) (by rcases hty with ⟨z, h⟩ | ⟨z, h⟩ <;> rw [h] <;> rfl) dd (fun H1 e1 z oq => ?_)
  refine kk p l e R s m args below meth c D fz N0 C H1 _ cells slots lr ⟨V.1.put C.env.lo ha (fun _ => rfl) rfl (fun b hb => ⟨fun _ => zu2_b hb, fun _ => rfl, fun _ => rfl, fun _ => rfl, fun _ => rfl, fun _ => rfl⟩) z oq (zAt.ofObj (g := (zpfr g a k none)) (n := n) hs hcf (e1.to (fun j hj => ?_))), zS.put V.2.1 z oq ha, V.2.2⟩
  by_cases h : j = k
  · subst h
    rw [show updV (fun k => zfv (zr fz N0) g n (ty0 k) a k) j .null j = .null from if_pos rfl]
    rcases hty with ⟨z, h⟩ | ⟨z, h⟩ <;> rw [h] <;> simp only [zfv, zfr, zpfr, zu2, and_self, if_true, Option.map, va_rf]
  · rw [show updV (fun k => zfv (zr fz N0) g n (ty0 k) a k) k .null j = zfv (zr fz N0) g n (ty0 j) a j from if_neg h]
    cases ty0 j <;> simp only [zfv, zfi, zfl, zfr, zpfi, zpfl, zpfr, zu2, h, and_false, if_false]
theorem pw_putiN {idx : Nat} (k : Nat) (hcf : zCF C9 T9 N9 ci ty0) (hs : zsh g a = some (.inl ci)) (ha : zK ≤ a) (hk : k < N9) {host : String} (hlink : Cond.fieldLinkNest Y.2.1 idx (T9 k).1 (T9 k).2.1 (T9 k).2.2.1 host ∈ lw_tbl) (hfin : (T9 k).2.2.2 = false) {x : Int32} (hty : ty0 k = .int ∨ ty0 k = .boolean ∨ ty0 k = .byte) (hn : narrow (ty0 k) (.int x) = .int x) (hfi : fits (ty0 k) (.int x) = true) (dd : decode Y.2.2.1 pc = .ok (.putfield idx, 3)) (kk : PW Y d P bc bs (pc + 3) ls st g (zpfi n a k x)) : PW Y d P bc bs pc ls (.int x :: .ref a :: st) g n := by
  intro p l e R s m args below meth c D fz N0 C H locs cells slots lr V
  refine zw_putN C.1 C.2.1 C.hts hcf C.own C.env.K (((V.1.2.2.2.1 a).obj hs hcf).own ha) k hk (va_Nw.use rfl (C.env.2.2.2.2.1 _ hlink rfl)) (fun _ h => h) hfin (v := (.int x)) hn hfi dd (fun H1 e1 z oq => ?_)
  refine kk p l e R s m args below meth c D fz N0 C H1 _ cells slots lr ⟨V.1.put C.env.lo ha (fun _ => rfl) rfl (fun b hb => ⟨fun _ => rfl, fun _ => rfl, fun _ => zu2_b hb, fun _ => rfl, fun _ => rfl, fun _ => rfl⟩) z oq (zAt.ofObj (g := g) (n := (zpfi n a k x)) hs hcf (e1.to (fun j hj => ?_))), zS.put V.2.1 z oq ha, V.2.2⟩
  by_cases h : j = k
  · subst h
    rw [show updV (fun k => zfv (zr fz N0) g n (ty0 k) a k) j (.int x) j = (.int x) from if_pos rfl]
    rcases hty with h | h | h <;> rw [h] <;> simp only [zfv, zfi, zpfi, zu2, and_self, if_true]
  · rw [show updV (fun k => zfv (zr fz N0) g n (ty0 k) a k) k (.int x) j = zfv (zr fz N0) g n (ty0 j) a j from if_neg h]
    cases ty0 j <;> simp only [zfv, zfi, zfl, zfr, zpfi, zpfl, zpfr, zu2, h, and_false, if_false]
theorem pw_putlN {idx : Nat} (k : Nat) (hcf : zCF C9 T9 N9 ci ty0) (hs : zsh g a = some (.inl ci)) (ha : zK ≤ a) (hk : k < N9) {host : String} (hlink : Cond.fieldLinkNest Y.2.1 idx (T9 k).1 (T9 k).2.1 (T9 k).2.2.1 host ∈ lw_tbl) (hfin : (T9 k).2.2.2 = false) {x : Int64} (hty : ty0 k = .long) (dd : decode Y.2.2.1 pc = .ok (.putfield idx, 3)) (kk : PW Y d P bc bs (pc + 3) ls st g (zpfl n a k x)) : PW Y d P bc bs pc ls (.long x :: .ref a :: st) g n := by
  intro p l e R s m args below meth c D fz N0 C H locs cells slots lr V
  refine zw_putN C.1 C.2.1 C.hts hcf C.own C.env.K (((V.1.2.2.2.1 a).obj hs hcf).own ha) k hk (va_Nw.use rfl (C.env.2.2.2.2.1 _ hlink rfl)) (fun _ h => h) hfin (v := (.long x)) (by rw [hty]; rfl) (by rw [hty]; rfl) dd (fun H1 e1 z oq => ?_)
  refine kk p l e R s m args below meth c D fz N0 C H1 _ cells slots lr ⟨V.1.put C.env.lo ha (fun _ => rfl) rfl (fun b hb => ⟨fun _ => rfl, fun _ => rfl, fun _ => rfl, fun _ => zu2_b hb, fun _ => rfl, fun _ => rfl⟩) z oq (zAt.ofObj (g := g) (n := (zpfl n a k x)) hs hcf (e1.to (fun j hj => ?_))), zS.put V.2.1 z oq ha, V.2.2⟩
  by_cases h : j = k
  · subst h
    rw [show updV (fun k => zfv (zr fz N0) g n (ty0 k) a k) j (.long x) j = (.long x) from if_pos rfl]
    rw [hty]; simp only [zfv, zfl, zpfl, zu2, and_self, if_true]
  · rw [show updV (fun k => zfv (zr fz N0) g n (ty0 k) a k) k (.long x) j = zfv (zr fz N0) g n (ty0 j) a j from if_neg h]
    cases ty0 j <;> simp only [zfv, zfi, zfl, zfr, zpfi, zpfl, zpfr, zu2, h, and_false, if_false]
theorem pw_putrN {idx : Nat} (k : Nat) (hcf : zCF C9 T9 N9 ci ty0) (hs : zsh g a = some (.inl ci)) (ha : zK ≤ a) (hk : k < N9) {host : String} (hlink : Cond.fieldLinkNest Y.2.1 idx (T9 k).1 (T9 k).2.1 (T9 k).2.2.1 host ∈ lw_tbl) (hfin : (T9 k).2.2.2 = false) {x : Nat} (hty : (∃ z, ty0 k = .object z) ∨ ∃ z, ty0 k = .array z) (dd : decode Y.2.2.1 pc = .ok (.putfield idx, 3)) (kk : PW Y d P bc bs (pc + 3) ls st (zpfr g a k (some x)) n) : PW Y d P bc bs pc ls (.ref x :: .ref a :: st) g n := by
  intro p l e R s m args below meth c D fz N0 C H locs cells slots lr V
  refine zw_putN C.1 C.2.1 C.hts hcf C.own C.env.K (((V.1.2.2.2.1 a).obj hs hcf).own ha) k hk (va_Nw.use rfl (C.env.2.2.2.2.1 _ hlink rfl)) (fun _ h => h) hfin (v := (.ref (zr fz N0 x))) (by rcases hty with ⟨z, h⟩ | ⟨z, h⟩ <;> rw [h] <;> rfl) (by rcases hty with ⟨z, h⟩ | ⟨z, h⟩ <;> rw [h] <;> rfl) dd (fun H1 e1 z oq => ?_)
  refine kk p l e R s m args below meth c D fz N0 C H1 _ cells slots lr ⟨V.1.put C.env.lo ha (fun _ => rfl) rfl (fun b hb => ⟨fun _ => zu2_b hb, fun _ => rfl, fun _ => rfl, fun _ => rfl, fun _ => rfl, fun _ => rfl⟩) z oq (zAt.ofObj (g := (zpfr g a k (some x))) (n := n) hs hcf (e1.to (fun j hj => ?_))), zS.put V.2.1 z oq ha, V.2.2⟩
  by_cases h : j = k
  · subst h
    rw [show updV (fun k => zfv (zr fz N0) g n (ty0 k) a k) j (.ref (zr fz N0 x)) j = (.ref (zr fz N0 x)) from if_pos rfl]
    rcases hty with ⟨z, h⟩ | ⟨z, h⟩ <;> rw [h] <;> simp only [zfv, zfr, zpfr, zu2, and_self, if_true, Option.map, va_rf]
  · rw [show updV (fun k => zfv (zr fz N0) g n (ty0 k) a k) k (.ref (zr fz N0 x)) j = zfv (zr fz N0) g n (ty0 j) a j from if_neg h]
    cases ty0 j <;> simp only [zfv, zfi, zfl, zfr, zpfi, zpfl, zpfr, zu2, h, and_false, if_false]
theorem pw_putr0N {idx : Nat} (k : Nat) (hcf : zCF C9 T9 N9 ci ty0) (hs : zsh g a = some (.inl ci)) (ha : zK ≤ a) (hk : k < N9) {host : String} (hlink : Cond.fieldLinkNest Y.2.1 idx (T9 k).1 (T9 k).2.1 (T9 k).2.2.1 host ∈ lw_tbl) (hfin : (T9 k).2.2.2 = false) (hty : (∃ z, ty0 k = .object z) ∨ ∃ z, ty0 k = .array z) (dd : decode Y.2.2.1 pc = .ok (.putfield idx, 3)) (kk : PW Y d P bc bs (pc + 3) ls st (zpfr g a k none) n) : PW Y d P bc bs pc ls (.null :: .ref a :: st) g n := by
  intro p l e R s m args below meth c D fz N0 C H locs cells slots lr V
  refine zw_putN C.1 C.2.1 C.hts hcf C.own C.env.K (((V.1.2.2.2.1 a).obj hs hcf).own ha) k hk (va_Nw.use rfl (C.env.2.2.2.2.1 _ hlink rfl)) (fun _ h => h) hfin (v := .null) (by rcases hty with ⟨z, h⟩ | ⟨z, h⟩ <;> rw [h] <;> rfl) (by rcases hty with ⟨z, h⟩ | ⟨z, h⟩ <;> rw [h] <;> rfl) dd (fun H1 e1 z oq => ?_)
  refine kk p l e R s m args below meth c D fz N0 C H1 _ cells slots lr ⟨V.1.put C.env.lo ha (fun _ => rfl) rfl (fun b hb => ⟨fun _ => zu2_b hb, fun _ => rfl, fun _ => rfl, fun _ => rfl, fun _ => rfl, fun _ => rfl⟩) z oq (zAt.ofObj (g := (zpfr g a k none)) (n := n) hs hcf (e1.to (fun j hj => ?_))), zS.put V.2.1 z oq ha, V.2.2⟩
  by_cases h : j = k
  · subst h
    rw [show updV (fun k => zfv (zr fz N0) g n (ty0 k) a k) j .null j = .null from if_pos rfl]
    rcases hty with ⟨z, h⟩ | ⟨z, h⟩ <;> rw [h] <;> simp only [zfv, zfr, zpfr, zu2, and_self, if_true, Option.map, va_rf]
  · rw [show updV (fun k => zfv (zr fz N0) g n (ty0 k) a k) k .null j = zfv (zr fz N0) g n (ty0 j) a j from if_neg h]
    cases ty0 j <;> simp only [zfv, zfi, zfl, zfr, zpfi, zpfl, zpfr, zu2, h, and_false, if_false]
theorem pw_iald {len : Nat} {i : Int32} (j : Nat) (hi : i = nI j) (hs : zsh g a = some (.inr (0, len))) (hj : j < len) (hlen : len < 2147483648) (dd : decode Y.2.2.1 pc = .ok (.iaload, 1)) (kk : PW Y d P bc bs (pc + 1) ls (.int (zai n a j) :: st) g n) : PW Y d P bc bs pc ls (.int i :: .ref a :: st) g n := by
  intro p l e R s m args below meth c D fz N0 C H locs cells slots lr V
  subst hi
  have hin : vp_in (nI j) len := vp_in_nI hj hlen
  have hcl : (nI j).toNatClampNeg = j := nI_clamp (by omega)
  obtain ⟨cell, h1, -, h3, h4, h5, h6, h7⟩ := (V.1.2.2.2.1 a).arr hs (ty := .int) rfl
  refine W.iald (v := .int (zai n a j)) C.1 C.2.1 h1 (zArr_is (zK_ty C.env (kd := 0) rfl) h3 h4) h5 (by rw [h6]; exact hin) (by rw [hcl]; exact h7 j hj) rfl rfl dd ?_
  exact kk p l e R s m args below meth c D fz N0 C H locs cells slots lr V
theorem pw_lald {len : Nat} {i : Int32} (j : Nat) (hi : i = nI j) (hs : zsh g a = some (.inr (1, len))) (hj : j < len) (hlen : len < 2147483648) (dd : decode Y.2.2.1 pc = .ok (.laload, 1)) (kk : PW Y d P bc bs (pc + 1) ls (.long (zal n a j) :: st) g n) : PW Y d P bc bs pc ls (.int i :: .ref a :: st) g n := by
  intro p l e R s m args below meth c D fz N0 C H locs cells slots lr V
  subst hi
  have hin : vp_in (nI j) len := vp_in_nI hj hlen
  have hcl : (nI j).toNatClampNeg = j := nI_clamp (by omega)
  obtain ⟨cell, h1, -, h3, h4, h5, h6, h7⟩ := (V.1.2.2.2.1 a).arr hs (ty := .long) rfl
  refine W.lald (v := .long (zal n a j)) C.1 C.2.1 h1 (zArr_is (zK_ty C.env (kd := 1) rfl) h3 h4) h5 (by rw [h6]; exact hin) (by rw [hcl]; exact h7 j hj) rfl rfl dd ?_
  exact kk p l e R s m args below meth c D fz N0 C H locs cells slots lr V
theorem pw_bald {len : Nat} {i : Int32} (j : Nat) (hi : i = nI j) (hs : zsh g a = some (.inr (2, len))) (hj : j < len) (hlen : len < 2147483648) (dd : decode Y.2.2.1 pc = .ok (.baload, 1)) (kk : PW Y d P bc bs (pc + 1) ls (.int (zai n a j) :: st) g n) : PW Y d P bc bs pc ls (.int i :: .ref a :: st) g n := by
  intro p l e R s m args below meth c D fz N0 C H locs cells slots lr V
  subst hi
  have hin : vp_in (nI j) len := vp_in_nI hj hlen
  have hcl : (nI j).toNatClampNeg = j := nI_clamp (by omega)
  obtain ⟨cell, h1, -, h3, h4, h5, h6, h7⟩ := (V.1.2.2.2.1 a).arr hs (ty := .byte) rfl
  refine W.bald (v := .int (zai n a j)) C.1 C.2.1 h1 (zArr_is (zK_ty C.env (kd := 2) rfl) h3 h4) h5 (by rw [h6]; exact hin) (by rw [hcl]; exact h7 j hj) rfl rfl dd ?_
  exact kk p l e R s m args below meth c D fz N0 C H locs cells slots lr V
theorem pw_zald {len : Nat} {i : Int32} (j : Nat) (hi : i = nI j) (hs : zsh g a = some (.inr (3, len))) (hj : j < len) (hlen : len < 2147483648) (dd : decode Y.2.2.1 pc = .ok (.baload, 1)) (kk : PW Y d P bc bs (pc + 1) ls (.int (zai n a j) :: st) g n) : PW Y d P bc bs pc ls (.int i :: .ref a :: st) g n := by
  intro p l e R s m args below meth c D fz N0 C H locs cells slots lr V
  subst hi
  have hin : vp_in (nI j) len := vp_in_nI hj hlen
  have hcl : (nI j).toNatClampNeg = j := nI_clamp (by omega)
  obtain ⟨cell, h1, -, h3, h4, h5, h6, h7⟩ := (V.1.2.2.2.1 a).arr hs (ty := .boolean) rfl
  refine W.zald (v := .int (zai n a j)) C.1 C.2.1 h1 (zArr_is (zK_ty C.env (kd := 3) rfl) h3 h4) h5 (by rw [h6]; exact hin) (by rw [hcl]; exact h7 j hj) rfl rfl dd ?_
  exact kk p l e R s m args below meth c D fz N0 C H locs cells slots lr V
theorem pw_aald {kd len : Nat} {ty : FieldType} {i : Int32} {b : Nat} (j : Nat) (hi : i = nI j) (hs : zsh g a = some (.inr (kd, len))) (hk : zAk[kd]? = some ty) (hty : (∃ z, ty = .object z) ∨ ∃ z, ty = .array z) (hv : zar g a j = some b) (hj : j < len) (hlen : len < 2147483648) (dd : decode Y.2.2.1 pc = .ok (.aaload, 1)) (kk : PW Y d P bc bs (pc + 1) ls (.ref b :: st) g n) : PW Y d P bc bs pc ls (.int i :: .ref a :: st) g n := by
  intro p l e R s m args below meth c D fz N0 C H locs cells slots lr V
  subst hi
  have hin : vp_in (nI j) len := vp_in_nI hj hlen
  have hcl : (nI j).toNatClampNeg = j := nI_clamp (by omega)
  obtain ⟨cell, h1, -, h3, h4, h5, h6, h7⟩ := (V.1.2.2.2.1 a).arr hs hk
  refine W.aald (v := .ref (zr fz N0 b)) (ty := ty) C.1 C.2.1 h1 (zArr_is (zK_ty C.env hk) h3 h4) (by rcases hty with ⟨z, h⟩ | ⟨z, h⟩ <;> rw [h] <;> rfl) h5 (by rw [h6]; exact hin) (by rw [hcl, h7 j hj]; rcases hty with ⟨z, h⟩ | ⟨z, h⟩ <;> rw [h] <;> simp [zev, hv, va_rf]) rfl rfl dd ?_
  exact kk p l e R s m args below meth c D fz N0 C H locs cells slots lr V
theorem pw_aald0 {kd len : Nat} {ty : FieldType} {i : Int32} (j : Nat) (hi : i = nI j) (hs : zsh g a = some (.inr (kd, len))) (hk : zAk[kd]? = some ty) (hty : (∃ z, ty = .object z) ∨ ∃ z, ty = .array z) (hv : zar g a j = none) (hj : j < len) (hlen : len < 2147483648) (dd : decode Y.2.2.1 pc = .ok (.aaload, 1)) (kk : PW Y d P bc bs (pc + 1) ls (.null :: st) g n) : PW Y d P bc bs pc ls (.int i :: .ref a :: st) g n := by
  intro p l e R s m args below meth c D fz N0 C H locs cells slots lr V
  subst hi
  have hin : vp_in (nI j) len := vp_in_nI hj hlen
  have hcl : (nI j).toNatClampNeg = j := nI_clamp (by omega)
  obtain ⟨cell, h1, -, h3, h4, h5, h6, h7⟩ := (V.1.2.2.2.1 a).arr hs hk
  refine W.aald (v := .null) (ty := ty) C.1 C.2.1 h1 (zArr_is (zK_ty C.env hk) h3 h4) (by rcases hty with ⟨z, h⟩ | ⟨z, h⟩ <;> rw [h] <;> rfl) h5 (by rw [h6]; exact hin) (by rw [hcl, h7 j hj]; rcases hty with ⟨z, h⟩ | ⟨z, h⟩ <;> rw [h] <;> simp [zev, hv, va_rf]) rfl rfl dd ?_
  exact kk p l e R s m args below meth c D fz N0 C H locs cells slots lr V
theorem pw_alen {kd len : Nat} {ty : FieldType} (hs : zsh g a = some (.inr (kd, len))) (hk : zAk[kd]? = some ty) (dd : decode Y.2.2.1 pc = .ok (.arraylength, 1)) (kk : PW Y d P bc bs (pc + 1) ls (.int (nI len) :: st) g n) : PW Y d P bc bs pc ls (.ref a :: st) g n := by
  intro p l e R s m args below meth c D fz N0 C H locs cells slots lr V
  obtain ⟨cell, h1, -, h3, h4, h5, h6, h7⟩ := (V.1.2.2.2.1 a).arr hs hk
  refine W.alen (n := nI len) C.1 C.2.1 h1 (zArr_is (zK_ty C.env hk) h3 h4) (by rw [h6] <;> rfl) rfl rfl dd ?_
  exact kk p l e R s m args below meth c D fz N0 C H locs cells slots lr V
theorem pw_iast {len : Nat} {i : Int32} {x : Int32} (j : Nat) (hi : i = nI j) (hs : zsh g a = some (.inr (0, len))) (ha : zK ≤ a) (hj : j < len) (hlen : len < 2147483648) (dd : decode Y.2.2.1 pc = .ok (.iastore, 1)) (kk : PW Y d P bc bs (pc + 1) ls st g (zpai n a j x)) : PW Y d P bc bs pc ls (.int x :: .int i :: .ref a :: st) g n := by
  intro p l e R s m args below meth c D fz N0 C H locs cells slots lr V
  subst hi
  have hin : vp_in (nI j) len := vp_in_nI hj hlen
  have hcl : (nI j).toNatClampNeg = j := nI_clamp (by omega)
  obtain ⟨cell, h1, h2, -⟩ := (V.1.2.2.2.1 a).arr hs (ty := .int) rfl
  have h2 := h2 ha
  subst h2
  refine W.iast C.1 C.2.1 h1 (zK_ty C.env (kd := 0) rfl len _) (fun q => by cases q) (by show ¬ (nI j < 0 ∨ (arrV _ _ _).slots.size ≤ _); rw [arrV_size]; exact hin) rfl rfl dd fun H1 e1 z oq => ?_
  refine kk p l e R s m args below meth c D fz N0 C H1 _ cells slots lr ⟨V.1.put C.env.lo ha (fun _ => rfl) rfl (fun b hb => ⟨fun _ => rfl, fun _ => rfl, fun _ => rfl, fun _ => rfl, fun _ => zu2_b hb, fun _ => rfl⟩) z oq (zAt.ofArr (g := g) (n := zpai n a j x) hs (ty := .int) rfl ?_), zS.put V.2.1 z oq ha, V.2.2⟩
  rw [e1, arrV_store, hcl]
  congr 2
  funext q
  by_cases hq : q = j
  · subst hq
    simp [updV, zev, zai, zpai, zu2]
  · simp [updV, zev, zai, zpai, zu2, hq]
theorem pw_last {len : Nat} {i : Int32} {x : Int64} (j : Nat) (hi : i = nI j) (hs : zsh g a = some (.inr (1, len))) (ha : zK ≤ a) (hj : j < len) (hlen : len < 2147483648) (dd : decode Y.2.2.1 pc = .ok (.lastore, 1)) (kk : PW Y d P bc bs (pc + 1) ls st g (zpal n a j x)) : PW Y d P bc bs pc ls (.long x :: .int i :: .ref a :: st) g n := by
  intro p l e R s m args below meth c D fz N0 C H locs cells slots lr V
  subst hi
  have hin : vp_in (nI j) len := vp_in_nI hj hlen
  have hcl : (nI j).toNatClampNeg = j := nI_clamp (by omega)
  obtain ⟨cell, h1, h2, -⟩ := (V.1.2.2.2.1 a).arr hs (ty := .long) rfl
  have h2 := h2 ha
  subst h2
  refine W.last C.1 C.2.1 h1 (zK_ty C.env (kd := 1) rfl len _) (fun q => by cases q) (by show ¬ (nI j < 0 ∨ (arrV _ _ _).slots.size ≤ _); rw [arrV_size]; exact hin) rfl rfl dd fun H1 e1 z oq => ?_
  refine kk p l e R s m args below meth c D fz N0 C H1 _ cells slots lr ⟨V.1.put C.env.lo ha (fun _ => rfl) rfl (fun b hb => ⟨fun _ => rfl, fun _ => rfl, fun _ => rfl, fun _ => rfl, fun _ => rfl, fun _ => zu2_b hb⟩) z oq (zAt.ofArr (g := g) (n := zpal n a j x) hs (ty := .long) rfl ?_), zS.put V.2.1 z oq ha, V.2.2⟩
  rw [e1, arrV_store, hcl]
  congr 2
  funext q
  by_cases hq : q = j
  · subst hq
    simp [updV, zev, zal, zpal, zu2]
  · simp [updV, zev, zal, zpal, zu2, hq]
theorem pw_bast {len : Nat} {i : Int32} {x : Int32} (j : Nat) (hi : i = nI j) (hs : zsh g a = some (.inr (2, len))) (ha : zK ≤ a) (hj : j < len) (hlen : len < 2147483648) (dd : decode Y.2.2.1 pc = .ok (.bastore, 1)) (kk : PW Y d P bc bs (pc + 1) ls st g (zpai n a j (vp_nar .byte x))) : PW Y d P bc bs pc ls (.int x :: .int i :: .ref a :: st) g n := by
  intro p l e R s m args below meth c D fz N0 C H locs cells slots lr V
  subst hi
  have hin : vp_in (nI j) len := vp_in_nI hj hlen
  have hcl : (nI j).toNatClampNeg = j := nI_clamp (by omega)
  obtain ⟨cell, h1, h2, -⟩ := (V.1.2.2.2.1 a).arr hs (ty := .byte) rfl
  have h2 := h2 ha
  subst h2
  refine W.bast C.1 C.2.1 h1 (zK_ty C.env (kd := 2) rfl len _) (fun q => by cases q) (by show ¬ (nI j < 0 ∨ (arrV _ _ _).slots.size ≤ _); rw [arrV_size]; exact hin) rfl rfl dd fun H1 e1 z oq => ?_
  refine kk p l e R s m args below meth c D fz N0 C H1 _ cells slots lr ⟨V.1.put C.env.lo ha (fun _ => rfl) rfl (fun b hb => ⟨fun _ => rfl, fun _ => rfl, fun _ => rfl, fun _ => rfl, fun _ => zu2_b hb, fun _ => rfl⟩) z oq (zAt.ofArr (g := g) (n := zpai n a j (vp_nar .byte x)) hs (ty := .byte) rfl ?_), zS.put V.2.1 z oq ha, V.2.2⟩
  rw [e1, arrV_store, hcl]
  congr 2
  funext q
  by_cases hq : q = j
  · subst hq
    simp [updV, zev, zai, zpai, zu2, vp_nar]
    try rfl
  · simp [updV, zev, zai, zpai, zu2, hq]
theorem pw_zast {len : Nat} {i : Int32} {x : Int32} (j : Nat) (hi : i = nI j) (hs : zsh g a = some (.inr (3, len))) (ha : zK ≤ a) (hj : j < len) (hlen : len < 2147483648) (dd : decode Y.2.2.1 pc = .ok (.bastore, 1)) (kk : PW Y d P bc bs (pc + 1) ls st g (zpai n a j (vp_nar .boolean x))) : PW Y d P bc bs pc ls (.int x :: .int i :: .ref a :: st) g n := by
  intro p l e R s m args below meth c D fz N0 C H locs cells slots lr V
  subst hi
  have hin : vp_in (nI j) len := vp_in_nI hj hlen
  have hcl : (nI j).toNatClampNeg = j := nI_clamp (by omega)
  obtain ⟨cell, h1, h2, -⟩ := (V.1.2.2.2.1 a).arr hs (ty := .boolean) rfl
  have h2 := h2 ha
  subst h2
  refine W.zast C.1 C.2.1 h1 (zK_ty C.env (kd := 3) rfl len _) (fun q => by cases q) (by show ¬ (nI j < 0 ∨ (arrV _ _ _).slots.size ≤ _); rw [arrV_size]; exact hin) rfl rfl dd fun H1 e1 z oq => ?_
  refine kk p l e R s m args below meth c D fz N0 C H1 _ cells slots lr ⟨V.1.put C.env.lo ha (fun _ => rfl) rfl (fun b hb => ⟨fun _ => rfl, fun _ => rfl, fun _ => rfl, fun _ => rfl, fun _ => zu2_b hb, fun _ => rfl⟩) z oq (zAt.ofArr (g := g) (n := zpai n a j (vp_nar .boolean x)) hs (ty := .boolean) rfl ?_), zS.put V.2.1 z oq ha, V.2.2⟩
  rw [e1, arrV_store, hcl]
  congr 2
  funext q
  by_cases hq : q = j
  · subst hq
    simp [updV, zev, zai, zpai, zu2, vp_nar]
    try rfl
  · simp [updV, zev, zai, zpai, zu2, hq]
end PWH

