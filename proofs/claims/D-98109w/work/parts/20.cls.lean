/-! ===== THE CLASS: what represents the state =====
 cells that come and go: 1001 to 1008, 1041 to 1044, and from 1546 on -/
def dyn (a : Nat) : Prop := (1001 ≤ a ∧ a ≤ 1008) ∨ (1041 ≤ a ∧ a ≤ 1044) ∨ 1546 ≤ a
theorem dyn.ge {a : Nat} (h : dyn a) : zK ≤ a := by unfold dyn at h; unfold zK; omega
/-- a list: its cell, how many, what -/
def cLs (g : zg_G) (L m : Nat) (xs : Nat → Nat) : Prop := dyn L ∧ zsh g L = some (.inl 16) ∧ ∃ A cap, dyn A ∧ zfr g L 1 = some A ∧ zsh g A = some (.inr (4, cap)) ∧ m ≤ cap ∧ cap ≤ 60000 ∧ ∀ k, k < m → zar g A k = some (xs k)
def cFold (u : zW) : List (Nat × zW) → zW
  | [] => u
  | q :: r => cFold (vB q.1 u q.2) r
/-- the term at x, so high at most, comes to f -/
def cTm (g : zg_G) (n : zg_N) : Nat → Nat → zW → Prop
  | 0, _, _ => False
  | h + 1, x, f => dyn x ∧ ((zsh g x = some (.inl 13) ∧ ∃ k, zfi n x 0 = nI k ∧ f = vK k) ∨ (zsh g x = some (.inl 14) ∧ ∃ k, k < 10 ∧ zfi n x 0 = nI k ∧ f = vF k) ∨
      (zsh g x = some (.inl 12) ∧ ∃ (LT LS : Nat) (xs ss : Nat → Nat) (u : zW) (fs : List (Nat × zW)), zfr g x 0 = some LT ∧ zfr g x 1 = some LS ∧ cLs g LT (fs.length + 1) xs ∧ cLs g LS (fs.length + 1) ss ∧ zfi n LT 2 = nI (fs.length + 1) ∧ zfi n LS 2 = nI (fs.length + 1) ∧ fs.length ≤ 600 ∧
        cTm g n h (xs 0) u ∧ (∀ k q, fs[k]? = some q → cTm g n h (xs (k + 1)) q.2 ∧ ((q.1 = 2 ∧ ss (k + 1) = 271) ∨ (q.1 = 3 ∧ ss (k + 1) = 273) ∨ (q.1 = 4 ∧ ss (k + 1) = 270))) ∧ f = cFold u fs))
/-- the ground at x, so high at most, comes to f: 0 or 1 -/
def cGr (g : zg_G) (n : zg_N) : Nat → Nat → zW → Prop
  | 0, _, _ => False
  | h + 1, x, f => dyn x ∧ ((zsh g x = some (.inl 10) ∧ ∃ (al : Bool) (LT : Nat) (xs : Nat → Nat) (fs : List zW), zfi n x 0 = (if al then 1 else 0) ∧ zfr g x 1 = some LT ∧ cLs g LT fs.length xs ∧ zfi n LT 2 = nI fs.length ∧ fs.length ≤ 600 ∧
        (∀ k q, fs[k]? = some q → cGr g n h (xs k) q) ∧ f = fun fc => if (if al then fs.all (fun q => decide (q fc = 1)) else fs.any (fun q => decide (q fc = 1))) then 1 else 0) ∨
      (zsh g x = some (.inl 11) ∧ ∃ (a : Nat) (u : zW), zfr g x 0 = some a ∧ cGr g n h a u ∧ f = vN u) ∨
      (zsh g x = some (.inl 15) ∧ ∃ (a b c : Nat) (u v : zW), zfr g x 0 = some a ∧ zfr g x 1 = some b ∧ zfi n x 2 = nI c ∧ (c = 60 ∨ c = 62 ∨ c = 61) ∧ cTm g n h a u ∧ cTm g n h b v ∧ f = vB (pHow c) u v))
/-- where things lie: 0 the jar, 1 its models, 2 its seeings, 3 how many, 4 the tongue, 5 who, 6 its grounds, 7 how many; the seeings; the grounds; the images (a state, its order) -/
abbrev cW : Type := (Nat → Nat) × (Nat → Nat) × (Nat → Nat) × (Nat → Option (Nat × Nat))
abbrev wJ (w : cW) : Nat := w.1 0
abbrev wM (w : cW) : Nat := w.1 1
abbrev wL (w : cW) : Nat := w.1 2
abbrev wMs (w : cW) : Nat := w.1 3
abbrev wT (w : cW) : Nat := w.1 4
abbrev wH (w : cW) : Nat := w.1 5
abbrev wG (w : cW) : Nat := w.1 6
abbrev wGs (w : cW) : Nat := w.1 7
abbrev wX (w : cW) : Nat → Nat := w.2.1
abbrev wY (w : cW) : Nat → Nat := w.2.2.1
abbrev wI (w : cW) : Nat → Option (Nat × Nat) := w.2.2.2
/-- a jar's cells -/
def CJ (g : zg_G) (w : cW) : Prop := dyn (wJ w) ∧ zsh g (wJ w) = some (.inl 1) ∧ zfr g (wJ w) 1 = some (wM w) ∧ dyn (wM w) ∧ zsh g (wM w) = some (.inr (1, 17)) ∧ zfr g (wJ w) 0 = some (wL w) ∧ cLs g (wL w) (wMs w) (wX w) ∧ ∀ k, k < wMs w → dyn (wX w k) ∧ zsh g (wX w k) = some (.inl 8)
/-- a tongue's cells -/
def CT (g : zg_G) (w : cW) : Prop := dyn (wT w) ∧ zsh g (wT w) = some (.inl 2) ∧ zfr g (wT w) 1 = some (wH w) ∧ dyn (wH w) ∧ zsh g (wH w) = some (.inr (0, 10)) ∧ zfr g (wT w) 0 = some (wG w) ∧ cLs g (wG w) (wGs w) (wY w)
def CI (g : zg_G) (w : cW) : Prop := (∀ i, i < 3 → zar g ax_images i = (wI w i).map Prod.fst) ∧ (∀ i, i < 3 → ∀ q, wI w i = some q → dyn q.1 ∧ zsh g q.1 = some (.inl 3) ∧ zfr g q.1 stf_order = some q.2 ∧ dyn q.2 ∧ zsh g q.2 = some (.inr (0, 12))) ∧ ∀ i j, i < 3 → j < 3 → ¬ i = j → ∀ p q, wI w i = some p → wI w j = some q → ¬ p.1 = q.1 ∧ ¬ p.2 = q.2
def CG (g : zg_G) (w : cW) : Prop := CSh g ∧ (zfr g aX xf_jar = some (wJ w) ∧ CJ g w) ∧ (zfr g aX xf_tongue = some (wT w) ∧ CT g w) ∧ CI g w
/-- the numbers -/
def CVj (n : zg_N) (w : cW) (S : zS) : Prop := zfi n (wJ w) 2 = nI (sN S 0 0) ∧ zfi n (wJ w) 3 = nI (sN S 0 1) ∧ zfi n (wJ w) 4 = nI (sN S 0 3) ∧ (∀ k, okb S k → zal n (wM w) k = sL S 0 k) ∧ wMs w = sN S 0 2 ∧ zfi n (wL w) 2 = nI (sN S 0 2) ∧ ∀ k, k < sN S 0 2 → zfi n (wX w k) 0 = nI (sN S 1 k) ∧ zfl n (wX w k) 1 = sL S 1 k
def CVt (g : zg_G) (n : zg_N) (w : cW) (T : List (Nat × zG)) : Prop := wGs w = T.length ∧ zfi n (wG w) 2 = nI T.length ∧ ∀ k q, T[k]? = some q → zai n (wH w) k = nI q.1 ∧ ∃ f, cGr g n 20 (wY w k) f ∧ ∀ fc, f fc = if q.2 fc then 1 else 0
def CVi (n : zg_N) (w : cW) (S : zS) : Prop := zfi n aX xf_imageMany = nI (sN S 0 6) ∧ ∀ i, i < sN S 0 6 → ∃ q, wI w i = some q ∧ zfi n q.1 stf_world = nI (sN S (10 + i) 0) ∧ zfi n q.1 stf_law = nI (sN S (10 + i) 1) ∧ ∀ k, k < 12 → zai n q.2 k = nI (sN S (10 + i) (2 + k))
def CV (g : zg_G) (n : zg_N) (w : cW) (S : zS) : Prop :=
  CVj n w S ∧ CVt g n w (sT S) ∧ CVi n w S ∧ (∀ k, k < 52 → zal n ax_lefts k = sL S 2 k) ∧ (∀ k, k < 12 → zai n ax_order k = nI (sN S 2 k)) ∧ zfi n ax_s stf_world = nI (sN S 0 4) ∧ zfi n ax_s stf_law = nI (sN S 0 5) ∧ zfl n aX xf_question = sL S 3 0 ∧
  (zfi n aX xf_taped = nI (sN S 0 7) ∧ ∀ k, k < sN S 0 7 → zai n ax_tape k = vp_nar .byte (nI (sN S 3 k))) ∧ zfi n aX xf_faultAt = sI S 1 0 ∧ ∀ k, k < 3 → zai n ax_refused k = sI S 0 k
/-! readers -/
theorem CG.sh {g : zg_G} {w : cW} (h : CG g w) : CSh g := h.1
theorem cr_jar {g : zg_G} {w : cW} (h : CG g w) : zfr g aX xf_jar = some (wJ w) := h.2.1.1
theorem cs_jar {g : zg_G} {w : cW} (h : CJ g w) : zsh g (wJ w) = some (.inl 1) := h.2.1
theorem cr_models {g : zg_G} {w : cW} (h : CJ g w) : zfr g (wJ w) 1 = some (wM w) := h.2.2.1
theorem cs_models {g : zg_G} {w : cW} (h : CJ g w) : zsh g (wM w) = some (.inr (1, 17)) := h.2.2.2.2.1
theorem cr_seeings {g : zg_G} {w : cW} (h : CJ g w) : zfr g (wJ w) 0 = some (wL w) := h.2.2.2.2.2.1
theorem CJ.ls {g : zg_G} {w : cW} (h : CJ g w) : cLs g (wL w) (wMs w) (wX w) := h.2.2.2.2.2.2.1
theorem cs_seeings {g : zg_G} {w : cW} (h : CJ g w) : zsh g (wL w) = some (.inl 16) := h.ls.2.1
theorem cs_seeing {g : zg_G} {w : cW} (h : CJ g w) {k : Nat} (hk : k < wMs w) : zsh g (wX w k) = some (.inl 8) := (h.2.2.2.2.2.2.2 k hk).2
theorem cr_tongue {g : zg_G} {w : cW} (h : CG g w) : zfr g aX xf_tongue = some (wT w) := h.2.2.1.1
theorem cs_tongue {g : zg_G} {w : cW} (h : CT g w) : zsh g (wT w) = some (.inl 2) := h.2.1
theorem cr_who {g : zg_G} {w : cW} (h : CT g w) : zfr g (wT w) 1 = some (wH w) := h.2.2.1
theorem cs_who {g : zg_G} {w : cW} (h : CT g w) : zsh g (wH w) = some (.inr (0, 10)) := h.2.2.2.2.1
theorem cr_grounds {g : zg_G} {w : cW} (h : CT g w) : zfr g (wT w) 0 = some (wG w) := h.2.2.2.2.2.1
theorem CT.ls {g : zg_G} {w : cW} (h : CT g w) : cLs g (wG w) (wGs w) (wY w) := h.2.2.2.2.2.2
theorem cs_grounds {g : zg_G} {w : cW} (h : CT g w) : zsh g (wG w) = some (.inl 16) := h.ls.2.1
theorem CG.j {g : zg_G} {w : cW} (h : CG g w) : CJ g w := h.2.1.2
theorem CG.t {g : zg_G} {w : cW} (h : CG g w) : CT g w := h.2.2.1.2
theorem CG.i {g : zg_G} {w : cW} (h : CG g w) : CI g w := h.2.2.2
section CVR
variable {g : zg_G} {n : zg_N} {w : cW} {S : zS}
theorem CVj.at (h : CVj n w S) : zfi n (wJ w) 2 = nI (sN S 0 0) := h.1
theorem CVj.sl (h : CVj n w S) : zfi n (wJ w) 3 = nI (sN S 0 1) := h.2.1
theorem CVj.sa (h : CVj n w S) : zfi n (wJ w) 4 = nI (sN S 0 3) := h.2.2.1
theorem CVj.md (h : CVj n w S) {k : Nat} (hk : okb S k) : zal n (wM w) k = sL S 0 k := h.2.2.2.1 k hk
theorem CVj.ms (h : CVj n w S) : wMs w = sN S 0 2 := h.2.2.2.2.1
theorem CVj.sz (h : CVj n w S) : zfi n (wL w) 2 = nI (sN S 0 2) := h.2.2.2.2.2.1
theorem CVj.sw (h : CVj n w S) {k : Nat} (hk : k < sN S 0 2) : zfi n (wX w k) 0 = nI (sN S 1 k) := (h.2.2.2.2.2.2 k hk).1
theorem CVj.sm (h : CVj n w S) {k : Nat} (hk : k < sN S 0 2) : zfl n (wX w k) 1 = sL S 1 k := (h.2.2.2.2.2.2 k hk).2
theorem CV.j (h : CV g n w S) : CVj n w S := h.1
theorem CV.t (h : CV g n w S) : CVt g n w (sT S) := h.2.1
theorem CV.i (h : CV g n w S) : CVi n w S := h.2.2.1
theorem CV.lf (h : CV g n w S) {k : Nat} (hk : k < 52) : zal n ax_lefts k = sL S 2 k := h.2.2.2.1 k hk
theorem CV.od (h : CV g n w S) {k : Nat} (hk : k < 12) : zai n ax_order k = nI (sN S 2 k) := h.2.2.2.2.1 k hk
theorem CV.wd (h : CV g n w S) : zfi n ax_s stf_world = nI (sN S 0 4) := h.2.2.2.2.2.1
theorem CV.lw (h : CV g n w S) : zfi n ax_s stf_law = nI (sN S 0 5) := h.2.2.2.2.2.2.1
theorem CV.qu (h : CV g n w S) : zfl n aX xf_question = sL S 3 0 := h.2.2.2.2.2.2.2.1
theorem CV.tp (h : CV g n w S) : zfi n aX xf_taped = nI (sN S 0 7) := h.2.2.2.2.2.2.2.2.1.1
theorem CV.tb (h : CV g n w S) {k : Nat} (hk : k < sN S 0 7) : zai n ax_tape k = vp_nar .byte (nI (sN S 3 k)) := h.2.2.2.2.2.2.2.2.1.2 k hk
theorem CV.fa (h : CV g n w S) : zfi n aX xf_faultAt = sI S 1 0 := h.2.2.2.2.2.2.2.2.2.1
theorem CV.rf (h : CV g n w S) {k : Nat} (hk : k < 3) : zai n ax_refused k = sI S 0 k := h.2.2.2.2.2.2.2.2.2.2 k hk
theorem CV.im (h : CV g n w S) : zfi n aX xf_imageMany = nI (sN S 0 6) := h.i.1
end CVR
/-! what stands when numbers of other cells are written -/
/-- fields and arrays of the class that no question needs to find again -/
def kF (a k : Nat) : Prop := (a = aX ∧ k ≠ xf_question ∧ k ≠ xf_taped ∧ k ≠ xf_faultAt ∧ k ≠ xf_imageMany) ∨ isSch a
def kA (a : Nat) : Prop := a = 1009 ∨ (1017 ≤ a ∧ a ≤ 1023) ∨ (1025 ≤ a ∧ a ≤ 1040)
theorem kF_dyn {a k : Nat} (h : dyn a) : ¬ kF a k := by unfold dyn at h; unfold kF isSch; have e1 : aX = 1000 := rfl; have e2 : ax_school = 1016 := rfl; have e3 : ax_second = 1024 := rfl; intro z; rcases z with ⟨z, -⟩ | z | z <;> omega
theorem kA_dyn {a : Nat} (h : dyn a) : ¬ kA a := by unfold dyn at h; unfold kA; omega
/-- the ends of two heaps agree on what comes and goes -/
def dSame (n n1 : zg_N) : Prop := ∀ a, dyn a → ∀ k, zfi n1 a k = zfi n a k ∧ zfl n1 a k = zfl n a k ∧ zai n1 a k = zai n a k ∧ zal n1 a k = zal n a k
theorem zFr.dyn {n n1 : zg_N} (h : zFr kF kA n n1) : dSame n n1 := fun a ha k => ⟨(h.1 a k (kF_dyn ha)).1, (h.1 a k (kF_dyn ha)).2, (h.2 a (kA_dyn ha) k).1, (h.2 a (kA_dyn ha) k).2⟩
theorem cTm.keep {g : zg_G} {n n1 : zg_N} (hd : dSame n n1) : ∀ {h x : Nat} {f : zW}, cTm g n h x f → cTm g n1 h x f
  | 0, _, _, h => h
  | h + 1, x, f, hh => by
    obtain ⟨h0, h1⟩ := hh
    refine ⟨h0, ?_⟩
    rcases h1 with ⟨a1, k, a2, a3⟩ | ⟨a1, k, a2, a3, a4⟩ | ⟨a1, LT, LS, xs, ss, u, fs, b1, b2, b3, b4, b5, b6, b7, b8, b9, b10⟩
    · exact Or.inl ⟨a1, k, (hd x h0 0).1.trans a2, a3⟩
    · exact Or.inr (Or.inl ⟨a1, k, a2, (hd x h0 0).1.trans a3, a4⟩)
    · exact Or.inr (Or.inr ⟨a1, LT, LS, xs, ss, u, fs, b1, b2, b3, b4, (hd _ b3.1 2).1.trans b5, (hd _ b4.1 2).1.trans b6, b7, cTm.keep hd b8, fun k q hq => ⟨cTm.keep hd (b9 k q hq).1, (b9 k q hq).2⟩, b10⟩)
theorem cGr.keep {g : zg_G} {n n1 : zg_N} (hd : dSame n n1) : ∀ {h x : Nat} {f : zW}, cGr g n h x f → cGr g n1 h x f
  | 0, _, _, h => h
  | h + 1, x, f, hh => by
    obtain ⟨h0, h1⟩ := hh
    refine ⟨h0, ?_⟩
    rcases h1 with ⟨a1, al, LT, xs, fs, b1, b2, b3, b4, b5, b6, b7⟩ | ⟨a1, a, u, b1, b2, b3⟩ | ⟨a1, a, b, c, u, v, b1, b2, b3, b4, b5, b6, b7⟩
    · exact Or.inl ⟨a1, al, LT, xs, fs, (hd x h0 0).1.trans b1, b2, b3, (hd _ b3.1 2).1.trans b4, b5, fun k q hq => cGr.keep hd (b6 k q hq), b7⟩
    · exact Or.inr (Or.inl ⟨a1, a, u, b1, cGr.keep hd b2, b3⟩)
    · exact Or.inr (Or.inr ⟨a1, a, b, c, u, v, b1, b2, (hd x h0 2).1.trans b3, b4, cTm.keep hd b5, cTm.keep hd b6, b7⟩)
theorem CVj.keep {g : zg_G} {n n1 : zg_N} {w : cW} {S : zS} (hG : CJ g w) (h : CVj n w S) (hd : dSame n n1) : CVj n1 w S := by
  obtain ⟨h1, h2, h3, h4, h5, h6, h7⟩ := h
  have hj := hG.1
  have hm := hG.2.2.2.1
  have hx := hG.2.2.2.2.2.2.2
  rw [h5] at hx
  exact ⟨(hd _ hj 2).1.trans h1, (hd _ hj 3).1.trans h2, (hd _ hj 4).1.trans h3, fun k hk => (hd _ hm k).2.2.2.trans (h4 k hk), h5, (hd _ hG.ls.1 2).1.trans h6, fun k hk => ⟨(hd _ (hx k hk).1 0).1.trans (h7 k hk).1, (hd _ (hx k hk).1 1).2.1.trans (h7 k hk).2⟩⟩
theorem CVt.keep {g : zg_G} {n n1 : zg_N} {w : cW} {T : List (Nat × zG)} (hG : CT g w) (h : CVt g n w T) (hd : dSame n n1) : CVt g n1 w T := by
  obtain ⟨h1, h2, h3⟩ := h
  exact ⟨h1, (hd _ hG.ls.1 2).1.trans h2, fun k q hq => ⟨(hd _ hG.2.2.2.1 k).2.2.1.trans (h3 k q hq).1, by
    obtain ⟨f, f1, f2⟩ := (h3 k q hq).2
    exact ⟨f, f1.keep hd, f2⟩⟩⟩
theorem CVi.keep {g : zg_G} {n n1 : zg_N} {w : cW} {S : zS} (hW : WF S) (hG : CI g w) (h : CVi n w S) (hd : dSame n n1) (hm : zfi n1 aX xf_imageMany = zfi n aX xf_imageMany) : CVi n1 w S := by
  obtain ⟨h1, h2⟩ := h
  refine ⟨hm.trans h1, fun i hi => ?_⟩
  obtain ⟨q, q1, q2, q3, q4⟩ := h2 i hi
  have := hW.imgs
  obtain ⟨d1, -, -, d2, -⟩ := hG.2.1 i (by omega) q q1
  exact ⟨q, q1, (hd _ d1 _).1.trans q2, (hd _ d1 _).1.trans q3, fun k hk => (hd _ d2 k).2.2.1.trans (q4 k hk)⟩
theorem CV.keep {g : zg_G} {n n1 : zg_N} {w : cW} {S : zS} (h : CV g n w S) (hW : WF S) (hG : CG g w) (hf : zFr kF kA n n1) : CV g n1 w S := by
  have hd := hf.dyn
  have hi : ∀ k, ¬ kF aX k → zfi n1 aX k = zfi n aX k := fun k q => (hf.1 _ _ q).1
  have nX : ∀ k, (k = xf_question ∨ k = xf_taped ∨ k = xf_faultAt ∨ k = xf_imageMany) → ¬ kF aX k := fun k hk z => by
    rcases z with ⟨-, z1, z2, z3, z4⟩ | z
    · rcases hk with h | h | h | h
      · exact z1 h
      · exact z2 h
      · exact z3 h
      · exact z4 h
    · rcases z with z | z <;> exact absurd z (by decide)
  have nS : ∀ k, ¬ kF ax_s k := fun k z => by
    rcases z with ⟨z, -⟩ | z | z <;> exact absurd z (by decide)
  have ha : ∀ a, ¬ kA a → ∀ j, zai n1 a j = zai n a j := fun a q j => (hf.2 a q j).1
  obtain ⟨h1, h2, h3, h4, h5, h6, h7, h8, h9, h10, h11⟩ := h
  refine ⟨h1.keep hG.j hd, h2.keep hG.t hd, h3.keep hW hG.i hd (hi _ (nX _ (by simp))), fun k hk => ?_, fun k hk => ?_, ((hf.1 _ _ (nS _)).1).trans h6, ((hf.1 _ _ (nS _)).1).trans h7, ((hf.1 _ _ (nX _ (by simp))).2).trans h8, ⟨(hi _ (nX _ (by simp))).trans h9.1, fun k hk => ?_⟩, (hi _ (nX _ (by simp))).trans h10, fun k hk => ?_⟩
  · exact ((hf.2 ax_lefts (by unfold kA; decide) k).2).trans (h4 k hk)
  · exact (ha ax_order (by unfold kA; decide) k).trans (h5 k hk)
  · exact (ha ax_tape (by unfold kA; decide) k).trans (h9.2 k hk)
  · exact (ha ax_refused (by unfold kA; decide) k).trans (h11 k hk)
/-- the heap's shapes grow only: what lay there lies there still -/
def gX (g g1 : zg_G) : Prop := znx g ≤ znx g1 ∧ ∀ a, zsh g a ≠ none → zsh g1 a = zsh g a ∧ (∀ k, zfr g1 a k = zfr g a k) ∧ ∀ k, zar g1 a k = zar g a k
theorem gX.rf {g : zg_G} : gX g g := ⟨Nat.le_refl _, fun _ _ => ⟨rfl, fun _ => rfl, fun _ => rfl⟩⟩
theorem gX.gap {g : zg_G} {x : Nat} (h : znx g ≤ x) : gX g (zgap g x) := ⟨h, fun _ _ => ⟨rfl, fun _ => rfl, fun _ => rfl⟩⟩
theorem gX.tr {g g1 g2 : zg_G} (h : gX g g1) (h2 : gX g1 g2) : gX g g2 := ⟨Nat.le_trans h.1 h2.1, fun a ha => by
  obtain ⟨a1, a2, a3⟩ := h.2 a ha
  obtain ⟨b1, b2, b3⟩ := h2.2 a (by rw [a1]; exact ha)
  exact ⟨b1.trans a1, fun k => (b2 k).trans (a2 k), fun k => (b3 k).trans (a3 k)⟩⟩

