/-! ===== THE CLASS: growth, ends, refusals ===== -/
section GX
variable {g g1 : zg_G}
theorem gX.sh (h : gX g g1) {a : Nat} {v : Nat ⊕ (Nat × Nat)} (e : zsh g a = some v) : zsh g1 a = some v := (h.2 a (by rw [e]; exact fun z => nomatch z)).1.trans e
theorem gX.fr (h : gX g g1) {a k : Nat} {v : Nat ⊕ (Nat × Nat)} (e : zsh g a = some v) : zfr g1 a k = zfr g a k := (h.2 a (by rw [e]; exact fun z => nomatch z)).2.1 k
theorem gX.ar (h : gX g g1) {a k : Nat} {v : Nat ⊕ (Nat × Nat)} (e : zsh g a = some v) : zar g1 a k = zar g a k := (h.2 a (by rw [e]; exact fun z => nomatch z)).2.2 k
theorem cLs.gx (h : gX g g1) {L m : Nat} {xs : Nat → Nat} (hh : cLs g L m xs) : cLs g1 L m xs := by
  obtain ⟨a1, a2, A, cap, a3, a4, a5, a6, a7, a8⟩ := hh
  exact ⟨a1, h.sh a2, A, cap, a3, (h.fr a2).trans a4, h.sh a5, a6, a7, fun k hk => (h.ar a5).trans (a8 k hk)⟩
theorem cTm.gx (hx : gX g g1) {n : zg_N} : ∀ {h x : Nat} {f : zW}, cTm g n h x f → cTm g1 n h x f
  | 0, _, _, h => h
  | h + 1, x, f, hh => by
    obtain ⟨h0, h1⟩ := hh
    refine ⟨h0, ?_⟩
    rcases h1 with ⟨a1, k, a2, a3⟩ | ⟨a1, k, a2, a3, a4⟩ | ⟨a1, LT, LS, xs, ss, u, fs, b1, b2, b3, b4, b5, b6, b7, b8, b9, b10⟩
    · exact Or.inl ⟨hx.sh a1, k, a2, a3⟩
    · exact Or.inr (Or.inl ⟨hx.sh a1, k, a2, a3, a4⟩)
    · exact Or.inr (Or.inr ⟨hx.sh a1, LT, LS, xs, ss, u, fs, (hx.fr a1).trans b1, (hx.fr a1).trans b2, b3.gx hx, b4.gx hx, b5, b6, b7, cTm.gx hx b8, fun k q hq => ⟨cTm.gx hx (b9 k q hq).1, (b9 k q hq).2⟩, b10⟩)
theorem cGr.gx (hx : gX g g1) {n : zg_N} : ∀ {h x : Nat} {f : zW}, cGr g n h x f → cGr g1 n h x f
  | 0, _, _, h => h
  | h + 1, x, f, hh => by
    obtain ⟨h0, h1⟩ := hh
    refine ⟨h0, ?_⟩
    rcases h1 with ⟨a1, al, LT, xs, fs, b1, b2, b3, b4, b5, b6, b7⟩ | ⟨a1, a, u, b1, b2, b3⟩ | ⟨a1, a, b, c, u, v, b1, b2, b3, b4, b5, b6, b7⟩
    · exact Or.inl ⟨hx.sh a1, al, LT, xs, fs, b1, (hx.fr a1).trans b2, b3.gx hx, b4, b5, fun k q hq => cGr.gx hx (b6 k q hq), b7⟩
    · exact Or.inr (Or.inl ⟨hx.sh a1, a, u, (hx.fr a1).trans b1, cGr.gx hx b2, b3⟩)
    · exact Or.inr (Or.inr ⟨hx.sh a1, a, b, c, u, v, (hx.fr a1).trans b1, (hx.fr a1).trans b2, b3, b4, cTm.gx hx b5, cTm.gx hx b6, b7⟩)
theorem CSh.gx (hx : gX g g1) (h : CSh g) : CSh g1 := by
  obtain ⟨a1, a2, ⟨b1, b2, b3, b4⟩, ⟨c1, c2⟩, d⟩ := h
  refine ⟨hx.sh a1, fun q hq => ⟨(hx.fr a1).trans (a2 q hq).1, hx.sh (a2 q hq).2⟩, ⟨(hx.fr a1).trans b1, hx.sh b2, (hx.fr b2).trans b3, hx.sh b4⟩, ⟨(hx.fr a1).trans c1, (hx.fr a1).trans c2⟩, fun a ha => ?_⟩
  obtain ⟨d1, d2, d3⟩ := d a ha
  exact ⟨hx.sh d1, (hx.fr d1).trans d2, fun q hq => ⟨(hx.fr d1).trans (d3 q hq).1, hx.sh (d3 q hq).2⟩⟩
theorem CJ.gx (hx : gX g g1) {w : cW} (h : CJ g w) : CJ g1 w := by
  obtain ⟨a1, a2, a3, a4, a5, a6, a7, a8⟩ := h
  exact ⟨a1, hx.sh a2, (hx.fr a2).trans a3, a4, hx.sh a5, (hx.fr a2).trans a6, a7.gx hx, fun k hk => ⟨(a8 k hk).1, hx.sh (a8 k hk).2⟩⟩
theorem CT.gx (hx : gX g g1) {w : cW} (h : CT g w) : CT g1 w := by
  obtain ⟨a1, a2, a3, a4, a5, a6, a7⟩ := h
  exact ⟨a1, hx.sh a2, (hx.fr a2).trans a3, a4, hx.sh a5, (hx.fr a2).trans a6, a7.gx hx⟩
theorem CI.gx (hx : gX g g1) {w : cW} (hC : CSh g) (h : CI g w) : CI g1 w := by
  obtain ⟨a1, a2, a3⟩ := h
  refine ⟨fun i hi => (hx.ar (cs_images hC)).trans (a1 i hi), fun i hi q hq => ?_, a3⟩
  obtain ⟨b1, b2, b3, b4, b5⟩ := a2 i hi q hq
  exact ⟨b1, hx.sh b2, (hx.fr b2).trans b3, b4, hx.sh b5⟩
theorem CG.gx (hx : gX g g1) {w : cW} (h : CG g w) : CG g1 w :=
  ⟨h.1.gx hx, ⟨(hx.fr (cs_this h.1)).trans h.2.1.1, h.2.1.2.gx hx⟩, ⟨(hx.fr (cs_this h.1)).trans h.2.2.1.1, h.2.2.1.2.gx hx⟩, h.2.2.2.gx hx h.1⟩
theorem CV.gx (hx : gX g g1) {n : zg_N} {w : cW} {S : zS} (h : CV g n w S) : CV g1 n w S := by
  obtain ⟨h1, ⟨b1, b2, b3⟩, h3⟩ := h
  exact ⟨h1, ⟨b1, b2, fun k q hq => ⟨(b3 k q hq).1, by
    obtain ⟨f, f1, f2⟩ := (b3 k q hq).2
    exact ⟨f, f1.gx hx, f2⟩⟩⟩, h3⟩
end GX
/-- what a call of the class leaves alone: the reference's cells -/
def cF (a _ : Nat) : Prop := ¬ (1045 ≤ a ∧ a < 1546)
def cA (a : Nat) : Prop := ¬ (1045 ≤ a ∧ a < 1546)
def gT (g g1 : zg_G) : Prop := znx g ≤ znx g1 ∧ ∀ a, 1045 ≤ a → a < 1546 → zsh g1 a = zsh g a ∧ (∀ k, zfr g1 a k = zfr g a k) ∧ ∀ k, zar g1 a k = zar g a k
theorem gT.rf {g : zg_G} : gT g g := ⟨Nat.le_refl _, fun _ _ _ => ⟨rfl, fun _ => rfl, fun _ => rfl⟩⟩
theorem gT.gap {g : zg_G} {x : Nat} (h : znx g ≤ x) : gT g (zgap g x) := ⟨h, fun _ _ _ => ⟨rfl, fun _ => rfl, fun _ => rfl⟩⟩
theorem gT.tr {g g1 g2 : zg_G} (h : gT g g1) (h2 : gT g1 g2) : gT g g2 := ⟨Nat.le_trans h.1 h2.1, fun a h3 h4 => ⟨(h2.2 a h3 h4).1.trans (h.2 a h3 h4).1, fun k => ((h2.2 a h3 h4).2.1 k).trans ((h.2 a h3 h4).2.1 k), fun k => ((h2.2 a h3 h4).2.2 k).trans ((h.2 a h3 h4).2.2 k)⟩⟩
abbrev xIAE : String := "java/lang/IllegalArgumentException"
abbrev xIOB : String := "java/lang/IndexOutOfBoundsException"
abbrev xISE : String := "java/lang/IllegalStateException"
/-- the class of what is thrown, by its number -/
def xc (A B : String) (x : Int32) : String := if x = 1 then A else B
/-- the end of a method of the class that is asked -/
def cQ (X : Int32 → String) (g : zg_G) (n : zg_N) (R : Int32 × Value × zS) : zP := fun o g1 n1 =>
  ((o = .inl (some R.2.1) ∧ R.1 = 0) ∨ ∃ a, o = .inr (X R.1, a) ∧ ¬ R.1 = 0) ∧ (∃ w1, CG g1 w1 ∧ CV g1 n1 w1 R.2.2) ∧ gT g g1 ∧ zFr cF cA n n1
theorem cQ_eq {X : Int32 → String} {g : zg_G} {n : zg_N} {R R' : Int32 × Value × zS} {o : Option Value ⊕ (String × Nat)} {g1 : zg_G} {n1 : zg_N} (e : R = R') (h : cQ X g n R' o g1 n1) : cQ X g n R o g1 n1 := e ▸ h
theorem c_qok {X : Int32 → String} {g : zg_G} {n n1 : zg_N} {w : cW} {S : zS} (hG : CG g w) (hV : CV g n1 w S) (hf : zFr cF cA n n1) (v : Value) : cQ X g n (0, v, S) (.inl (some v)) g n1 := ⟨Or.inl ⟨rfl, rfl⟩, ⟨w, hG, hV⟩, gT.rf, hf⟩
theorem kF_cF : ∀ a k, kF a k → cF a k := fun a k h => by
  unfold kF isSch at h; unfold cF
  have e1 : aX = 1000 := rfl; have e2 : ax_school = 1016 := rfl; have e3 : ax_second = 1024 := rfl
  rcases h with ⟨z, -⟩ | z | z <;> omega
theorem kA_cA : ∀ a, kA a → cA a := fun a h => by unfold kA at h; unfold cA; omega
theorem zFk {n n1 : zg_N} (h : zFr kF kA n n1) : zFr cF cA n n1 := h.mono kF_cF kA_cA
/-- refused, and counted -/
def nRef (n : zg_N) (r : Nat) : zg_N := zpai n ax_refused r (zai n ax_refused r + 1)
theorem CV.refd {g : zg_G} {n : zg_N} {w : cW} {S : zS} (hG : CG g w) (hW : WF S) (h : CV g n w S) (r : Nat) (hr : r < 3) : CV g (nRef n r) w (sRef S r) := by
  have hd : dSame n (nRef n r) := fun a ha k => ⟨rfl, rfl, if_neg (fun z => by have := z.1; subst this; unfold dyn at ha; revert ha; decide), rfl⟩
  have hne : ∀ b k, ¬ b = ax_refused → zai (nRef n r) b k = zai n b k := fun b k hb => if_neg (fun z => hb z.1)
  have hr0 := h.rf hr
  obtain ⟨h1, h2, h3, h4, h5, h6, h7, h8, h9, h10, h11⟩ := h
  refine ⟨h1.keep hG.j hd, h2.keep hG.t hd, ?_, h4, fun k hk => (hne _ _ (by decide)).trans (h5 k hk), h6, h7, h8, ⟨h9.1, fun k hk => (hne _ _ (by decide)).trans (h9.2 k hk)⟩, h10, fun k hk => ?_⟩
  · refine ⟨h3.1, fun i hi => ?_⟩
    obtain ⟨q, q1, q2, q3, q4⟩ := h3.2 i hi
    refine ⟨q, q1, q2, q3, fun k hk => ?_⟩
    have : i < 3 := Nat.lt_of_lt_of_le hi hW.imgs
    exact (hd _ (hG.i.2.1 i (by omega) q q1).2.2.2.1 k).2.2.1.trans (q4 k hk)
  · show (if ax_refused = ax_refused ∧ k = r then _ else _) = zu2 S.2.2.1 0 r (sI S 0 r + 1) 0 k
    rw [zu2]
    by_cases e : k = r
    · subst e; rw [if_pos ⟨rfl, rfl⟩, if_pos ⟨rfl, rfl⟩, hr0]
    · rw [if_neg (fun z => e z.2), if_neg (fun z => e z.2)]; exact h11 k hk
/-- refused or not -/
def cN (E : String) (r : Nat) (c : Prop) (g : zg_G) (n : zg_N) : zP := fun o g1 n1 => (o = .inl none ∧ c ∧ g1 = g ∧ n1 = n) ∨ ∃ a x, o = .inr (E, a) ∧ ¬ c ∧ znx g ≤ x ∧ g1 = zgap g x ∧ n1 = nRef n r
theorem c_qbad {X : Int32 → String} {g : zg_G} {n n1 : zg_N} {w : cW} {S : zS} (hG : CG g w) (hW : WF S) (hV : CV g n1 w S) (hf : zFr cF cA n n1) (what : Int32) (hw : ¬ what = 0) (r : Nat) (hr : r < 3) (v : Value) (a x : Nat) (hx : znx g ≤ x) : cQ X g n (what, v, sRef S r) (.inr (X what, a)) (zgap g x) (nRef n1 r) :=
  ⟨Or.inr ⟨a, rfl, hw⟩, ⟨w, hG.gx (gX.gap hx), (hV.refd hG hW r hr).gx (gX.gap hx)⟩, gT.gap hx, hf.pai (by unfold cA; decide)⟩
abbrev zm_X1_init : zY := (yX1_init, RX1, cX1_init, 1, none, [])
theorem zmM_X1_init : zM zm_X1_init 0 := ⟨by decide +kernel, rfl, by decide +kernel, by decide +kernel, by decide +kernel, by decide⟩
abbrev zm_X1_begins : zY := (yX1_begins, RX1, cX1_begins, 2, none, [])
theorem zmM_X1_begins : zM zm_X1_begins 0 := ⟨by decide +kernel, rfl, by decide +kernel, by decide +kernel, by decide +kernel, by decide⟩
abbrev zm_X1_feed : zY := (yX1_feed, RX1, cX1_feed, 6, (some (.int)), [])
theorem zmM_X1_feed : zM zm_X1_feed 5 := ⟨by decide +kernel, rfl, by decide +kernel, by decide +kernel, by decide +kernel, by decide⟩
abbrev zm_X1_put : zY := (yX1_put, RX1, cX1_put, 3, none, [])
theorem zmM_X1_put : zM zm_X1_put 1 := ⟨by decide +kernel, rfl, by decide +kernel, by decide +kernel, by decide +kernel, by decide⟩
abbrev zm_X1_fault : zY := (yX1_fault, RX1, cX1_fault, 1, (some (.int)), [])
theorem zmM_X1_fault : zM zm_X1_fault 0 := ⟨by decide +kernel, rfl, by decide +kernel, by decide +kernel, by decide +kernel, by decide⟩
abbrev zm_X1_truths : zY := (yX1_truths, RX1, cX1_truths, 3, (some (.int)), [])
theorem zmM_X1_truths : zM zm_X1_truths 0 := ⟨by decide +kernel, rfl, by decide +kernel, by decide +kernel, by decide +kernel, by decide⟩
abbrev zm_X1_isTrue : zY := (yX1_isTrue, RX1, cX1_isTrue, 2, (some (.boolean)), [])
theorem zmM_X1_isTrue : zM zm_X1_isTrue 1 := ⟨by decide +kernel, rfl, by decide +kernel, by decide +kernel, by decide +kernel, by decide⟩
abbrev zm_X1_dull : zY := (yX1_dull, RX1, cX1_dull, 3, (some (.int)), [])
theorem zmM_X1_dull : zM zm_X1_dull 0 := ⟨by decide +kernel, rfl, by decide +kernel, by decide +kernel, by decide +kernel, by decide⟩
abbrev zm_X1_order : zY := (yX1_order, RX1, cX1_order, 7, (some (.int)), [])
theorem zmM_X1_order : zM zm_X1_order 1 := ⟨by decide +kernel, rfl, by decide +kernel, by decide +kernel, by decide +kernel, by decide⟩
abbrev zm_X1_at : zY := (yX1_at, RX1, cX1_at, 2, (some (.int)), [])
theorem zmM_X1_at : zM zm_X1_at 1 := ⟨by decide +kernel, rfl, by decide +kernel, by decide +kernel, by decide +kernel, by decide⟩
abbrev zm_X1_touchy : zY := (yX1_touchy, RX1, cX1_touchy, 4, (some (.int)), [])
theorem zmM_X1_touchy : zM zm_X1_touchy 0 := ⟨by decide +kernel, rfl, by decide +kernel, by decide +kernel, by decide +kernel, by decide⟩
abbrev zm_X1_endBy : zY := (yX1_endBy, RX1, cX1_endBy, 2, (some (.int)), [])
theorem zmM_X1_endBy : zM zm_X1_endBy 1 := ⟨by decide +kernel, rfl, by decide +kernel, by decide +kernel, by decide +kernel, by decide⟩
abbrev zm_X1_runs : zY := (yX1_runs, RX1, cX1_runs, 8, (some (.object "LotBeliefs$School")), [])
theorem zmM_X1_runs : zM zm_X1_runs 3 := ⟨by decide +kernel, rfl, by decide +kernel, by decide +kernel, by decide +kernel, by decide⟩
abbrev zm_X1_tells : zY := (yX1_tells, RX1, cX1_tells, 9, none, [])
theorem zmM_X1_tells : zM zm_X1_tells 7 := ⟨by decide +kernel, rfl, by decide +kernel, by decide +kernel, by decide +kernel, by decide⟩
abbrev zm_X1_change : zY := (yX1_change, RX1, cX1_change, 4, none, [])
theorem zmM_X1_change : zM zm_X1_change 2 := ⟨by decide +kernel, rfl, by decide +kernel, by decide +kernel, by decide +kernel, by decide⟩
abbrev zm_X1_draw : zY := (yX1_draw, RX1, cX1_draw, 3, (some (.int)), [])
theorem zmM_X1_draw : zM zm_X1_draw 2 := ⟨by decide +kernel, rfl, by decide +kernel, by decide +kernel, by decide +kernel, by decide⟩
abbrev zm_X1_draws : zY := (yX1_draws, RX1, cX1_draws, 4, none, [])
theorem zmM_X1_draws : zM zm_X1_draws 1 := ⟨by decide +kernel, rfl, by decide +kernel, by decide +kernel, by decide +kernel, by decide⟩
abbrev zm_X1_grave : zY := (yX1_grave, RX1, cX1_grave, 7, (some (.int)), [])
theorem zmM_X1_grave : zM zm_X1_grave 1 := ⟨by decide +kernel, rfl, by decide +kernel, by decide +kernel, by decide +kernel, by decide⟩
abbrev zm_X1_year : zY := (yX1_year, RX1, cX1_year, 1, (some (.object "LotBeliefs$School")), [])
theorem zmM_X1_year : zM zm_X1_year 0 := ⟨by decide +kernel, rfl, by decide +kernel, by decide +kernel, by decide +kernel, by decide⟩
abbrev zm_X1_swap : zY := (yX1_swap, RX1, cX1_swap, 6, (some (.int)), [])
theorem zmM_X1_swap : zM zm_X1_swap 0 := ⟨by decide +kernel, rfl, by decide +kernel, by decide +kernel, by decide +kernel, by decide⟩
abbrev zm_X1_trueOf : zY := (yX1_trueOf, RX1, cX1_trueOf, 2, (some (.int)), [])
theorem zmM_X1_trueOf : zM zm_X1_trueOf 1 := ⟨by decide +kernel, rfl, by decide +kernel, by decide +kernel, by decide +kernel, by decide⟩
abbrev zm_X1_humble : zY := (yX1_humble, RX1, cX1_humble, 3, (some (.int)), [])
theorem zmM_X1_humble : zM zm_X1_humble 0 := ⟨by decide +kernel, rfl, by decide +kernel, by decide +kernel, by decide +kernel, by decide⟩
abbrev zm_X1_isHumble : zY := (yX1_isHumble, RX1, cX1_isHumble, 4, (some (.boolean)), [])
theorem zmM_X1_isHumble : zM zm_X1_isHumble 1 := ⟨by decide +kernel, rfl, by decide +kernel, by decide +kernel, by decide +kernel, by decide⟩
abbrev zm_X1_image : zY := (yX1_image, RX1, cX1_image, 1, (some (.int)), [])
theorem zmM_X1_image : zM zm_X1_image 0 := ⟨by decide +kernel, rfl, by decide +kernel, by decide +kernel, by decide +kernel, by decide⟩
abbrev zm_X1_restore : zY := (yX1_restore, RX1, cX1_restore, 1, (some (.int)), [])
theorem zmM_X1_restore : zM zm_X1_restore 0 := ⟨by decide +kernel, rfl, by decide +kernel, by decide +kernel, by decide +kernel, by decide⟩
abbrev zm_X1_status : zY := (yX1_status, RX1, cX1_status, 2, (some (.int)), [])
theorem zmM_X1_status : zM zm_X1_status 1 := ⟨by decide +kernel, rfl, by decide +kernel, by decide +kernel, by decide +kernel, by decide⟩
abbrev zm_X1_count : zY := (yX1_count, RX1, cX1_count, 2, (some (.int)), [])
theorem zmM_X1_count : zM zm_X1_count 1 := ⟨by decide +kernel, rfl, by decide +kernel, by decide +kernel, by decide +kernel, by decide⟩
abbrev zm_X1_jar : zY := (yX1_jar, RX1, cX1_jar, 5, (some (.int)), [((21 : Nat), (64 : Nat), (71 : Nat), (159 : Nat)), ((21 : Nat), (64 : Nat), (95 : Nat), (0 : Nat)), ((71 : Nat), (88 : Nat), (95 : Nat), (0 : Nat)), ((95 : Nat), (97 : Nat), (95 : Nat), (0 : Nat))])
theorem zmM_X1_jar : zM zm_X1_jar 1 := ⟨by decide +kernel, rfl, by decide +kernel, by decide +kernel, by decide +kernel, by decide⟩
abbrev zm_X1_need : zY := (yX1_need, RX1, cX1_need, 2, none, [])
theorem zmM_X1_need : zM zm_X1_need 1 := ⟨by decide +kernel, rfl, by decide +kernel, by decide +kernel, by decide +kernel, by decide⟩
abbrev zm_X1_question : zY := (yX1_question, RX1, cX1_question, 5, (some (.int)), [((28 : Nat), (64 : Nat), (71 : Nat), (159 : Nat)), ((28 : Nat), (64 : Nat), (95 : Nat), (0 : Nat)), ((71 : Nat), (88 : Nat), (95 : Nat), (0 : Nat)), ((95 : Nat), (97 : Nat), (95 : Nat), (0 : Nat))])
theorem zmM_X1_question : zM zm_X1_question 1 := ⟨by decide +kernel, rfl, by decide +kernel, by decide +kernel, by decide +kernel, by decide⟩
abbrev zm_X1_tongue : zY := (yX1_tongue, RX1, cX1_tongue, 5, (some (.int)), [((28 : Nat), (63 : Nat), (70 : Nat), (159 : Nat)), ((28 : Nat), (63 : Nat), (94 : Nat), (0 : Nat)), ((70 : Nat), (87 : Nat), (94 : Nat), (0 : Nat)), ((94 : Nat), (96 : Nat), (94 : Nat), (0 : Nat))])
theorem zmM_X1_tongue : zM zm_X1_tongue 1 := ⟨by decide +kernel, rfl, by decide +kernel, by decide +kernel, by decide +kernel, by decide⟩
abbrev zm_X1_told : zY := (yX1_told, RX1, cX1_told, 2, (some (.int)), [])
theorem zmM_X1_told : zM zm_X1_told 1 := ⟨by decide +kernel, rfl, by decide +kernel, by decide +kernel, by decide +kernel, by decide⟩
abbrev zm_X1_models : zY := (yX1_models, RX1, cX1_models, 2, (some (.long)), [])
theorem zmM_X1_models : zM zm_X1_models 1 := ⟨by decide +kernel, rfl, by decide +kernel, by decide +kernel, by decide +kernel, by decide⟩
abbrev zm_X1_needIn : zY := (yX1_needIn, RX1, cX1_needIn, 3, none, [])
theorem zmM_X1_needIn : zM zm_X1_needIn 2 := ⟨by decide +kernel, rfl, by decide +kernel, by decide +kernel, by decide +kernel, by decide⟩
abbrev zm_X1_seen : zY := (yX1_seen, RX1, cX1_seen, 2, (some (.long)), [])
theorem zmM_X1_seen : zM zm_X1_seen 1 := ⟨by decide +kernel, rfl, by decide +kernel, by decide +kernel, by decide +kernel, by decide⟩
abbrev zm_X1_left : zY := (yX1_left, RX1, cX1_left, 2, (some (.long)), [])
theorem zmM_X1_left : zM zm_X1_left 1 := ⟨by decide +kernel, rfl, by decide +kernel, by decide +kernel, by decide +kernel, by decide⟩
abbrev zm_X1_isWeek : zY := (yX1_isWeek, RX1, cX1_isWeek, 1, (some (.boolean)), [])
theorem zmM_X1_isWeek : zM zm_X1_isWeek 1 := ⟨by decide +kernel, rfl, by decide +kernel, by decide +kernel, by decide +kernel, by decide⟩
abbrev zm_X1_kin : zY := (yX1_kin, RX1, cX1_kin, 7, (some (.int)), [])
theorem zmM_X1_kin : zM zm_X1_kin 2 := ⟨by decide +kernel, rfl, by decide +kernel, by decide +kernel, by decide +kernel, by decide⟩
abbrev zm_X1_fallOut : zY := (yX1_fallOut, RX1, cX1_fallOut, 4, (some (.boolean)), [])
theorem zmM_X1_fallOut : zM zm_X1_fallOut 3 := ⟨by decide +kernel, rfl, by decide +kernel, by decide +kernel, by decide +kernel, by decide⟩
abbrev zm_X1_law : zY := (yX1_law, RX1, cX1_law, 3, (some (.int)), [])
theorem zmM_X1_law : zM zm_X1_law 1 := ⟨by decide +kernel, rfl, by decide +kernel, by decide +kernel, by decide +kernel, by decide⟩
abbrev zm_X1_isLaw : zY := (yX1_isLaw, RX1, cX1_isLaw, 1, (some (.boolean)), [])
theorem zmM_X1_isLaw : zM zm_X1_isLaw 1 := ⟨by decide +kernel, rfl, by decide +kernel, by decide +kernel, by decide +kernel, by decide⟩
abbrev zm_X1_world : zY := (yX1_world, RX1, cX1_world, 3, (some (.int)), [])
theorem zmM_X1_world : zM zm_X1_world 1 := ⟨by decide +kernel, rfl, by decide +kernel, by decide +kernel, by decide +kernel, by decide⟩
abbrev zm_X1_held : zY := (yX1_held, RX1, cX1_held, 2, (some (.int)), [])
theorem zmM_X1_held : zM zm_X1_held 1 := ⟨by decide +kernel, rfl, by decide +kernel, by decide +kernel, by decide +kernel, by decide⟩
abbrev zm_X1_fate : zY := (yX1_fate, RX1, cX1_fate, 4, (some (.int)), [])
theorem zmM_X1_fate : zM zm_X1_fate 2 := ⟨by decide +kernel, rfl, by decide +kernel, by decide +kernel, by decide +kernel, by decide⟩
abbrev zm_X1_year_2 : zY := (yX1_year_2, RX1, cX1_year_2, 5, (some (.int)), [])
theorem zmM_X1_year_2 : zM zm_X1_year_2 1 := ⟨by decide +kernel, rfl, by decide +kernel, by decide +kernel, by decide +kernel, by decide⟩
abbrev zm_X1_ends : zY := (yX1_ends, RX1, cX1_ends, 2, (some (.int)), [])
theorem zmM_X1_ends : zM zm_X1_ends 1 := ⟨by decide +kernel, rfl, by decide +kernel, by decide +kernel, by decide +kernel, by decide⟩
abbrev zm_X1_needFew : zY := (yX1_needFew, RX1, cX1_needFew, 1, none, [])
theorem zmM_X1_needFew : zM zm_X1_needFew 0 := ⟨by decide +kernel, rfl, by decide +kernel, by decide +kernel, by decide +kernel, by decide⟩
abbrev zm_X1_findOrders : zY := (yX1_findOrders, RX1, cX1_findOrders, 3, none, [])
theorem zmM_X1_findOrders : zM zm_X1_findOrders 1 := ⟨by decide +kernel, rfl, by decide +kernel, by decide +kernel, by decide +kernel, by decide⟩
abbrev zm_X1_goesThrough : zY := (yX1_goesThrough, RX1, cX1_goesThrough, 5, none, [])
theorem zmM_X1_goesThrough : zM zm_X1_goesThrough 3 := ⟨by decide +kernel, rfl, by decide +kernel, by decide +kernel, by decide +kernel, by decide⟩
abbrev zm_X1_counts : zY := (yX1_counts, RX1, cX1_counts, 3, none, [])
theorem zmM_X1_counts : zM zm_X1_counts 1 := ⟨by decide +kernel, rfl, by decide +kernel, by decide +kernel, by decide +kernel, by decide⟩
abbrev zm_X1_orders : zY := (yX1_orders, RX1, cX1_orders, 2, (some (.int)), [])
theorem zmM_X1_orders : zM zm_X1_orders 1 := ⟨by decide +kernel, rfl, by decide +kernel, by decide +kernel, by decide +kernel, by decide⟩
abbrev zm_X1_best : zY := (yX1_best, RX1, cX1_best, 1, (some (.int)), [])
theorem zmM_X1_best : zM zm_X1_best 0 := ⟨by decide +kernel, rfl, by decide +kernel, by decide +kernel, by decide +kernel, by decide⟩
abbrev zm_X1_fits : zY := (yX1_fits, RX1, cX1_fits, 3, (some (.boolean)), [])
theorem zmM_X1_fits : zM zm_X1_fits 2 := ⟨by decide +kernel, rfl, by decide +kernel, by decide +kernel, by decide +kernel, by decide⟩
abbrev zm_X1_areSlips : zY := (yX1_areSlips, RX1, cX1_areSlips, 2, (some (.boolean)), [])
theorem zmM_X1_areSlips : zM zm_X1_areSlips 1 := ⟨by decide +kernel, rfl, by decide +kernel, by decide +kernel, by decide +kernel, by decide⟩
abbrev zm_X1_findWorlds : zY := (yX1_findWorlds, RX1, cX1_findWorlds, 4, none, [])
theorem zmM_X1_findWorlds : zM zm_X1_findWorlds 1 := ⟨by decide +kernel, rfl, by decide +kernel, by decide +kernel, by decide +kernel, by decide⟩
abbrev zm_X1_sets : zY := (yX1_sets, RX1, cX1_sets, 9, (some (.int)), [])
theorem zmM_X1_sets : zM zm_X1_sets 2 := ⟨by decide +kernel, rfl, by decide +kernel, by decide +kernel, by decide +kernel, by decide⟩
abbrev zm_X1_isWhole : zY := (yX1_isWhole, RX1, cX1_isWhole, 3, (some (.boolean)), [])
theorem zmM_X1_isWhole : zM zm_X1_isWhole 1 := ⟨by decide +kernel, rfl, by decide +kernel, by decide +kernel, by decide +kernel, by decide⟩
abbrev zm_X1_whole : zY := (yX1_whole, RX1, cX1_whole, 5, (some (.int)), [])
theorem zmM_X1_whole : zM zm_X1_whole 2 := ⟨by decide +kernel, rfl, by decide +kernel, by decide +kernel, by decide +kernel, by decide⟩
abbrev zm_X1_proof : zY := (yX1_proof, RX1, cX1_proof, 4, (some (.int)), [])
theorem zmM_X1_proof : zM zm_X1_proof 1 := ⟨by decide +kernel, rfl, by decide +kernel, by decide +kernel, by decide +kernel, by decide⟩
abbrev zm_X1_split : zY := (yX1_split, RX1, cX1_split, 9, (some (.int)), [])
theorem zmM_X1_split : zM zm_X1_split 2 := ⟨by decide +kernel, rfl, by decide +kernel, by decide +kernel, by decide +kernel, by decide⟩
abbrev zm_X1_likely : zY := (yX1_likely, RX1, cX1_likely, 7, (some (.int)), [])
theorem zmM_X1_likely : zM zm_X1_likely 1 := ⟨by decide +kernel, rfl, by decide +kernel, by decide +kernel, by decide +kernel, by decide⟩
abbrev zm_X1_salted : zY := (yX1_salted, RX1, cX1_salted, 4, (some (.int)), [])
theorem zmM_X1_salted : zM zm_X1_salted 1 := ⟨by decide +kernel, rfl, by decide +kernel, by decide +kernel, by decide +kernel, by decide⟩
abbrev zm_X1_salty : zY := (yX1_salty, RX1, cX1_salty, 2, (some (.int)), [])
theorem zmM_X1_salty : zM zm_X1_salty 1 := ⟨by decide +kernel, rfl, by decide +kernel, by decide +kernel, by decide +kernel, by decide⟩
abbrev zm_X1_compared : zY := (yX1_compared, RX1, cX1_compared, 2, (some (.int)), [])
theorem zmM_X1_compared : zM zm_X1_compared 1 := ⟨by decide +kernel, rfl, by decide +kernel, by decide +kernel, by decide +kernel, by decide⟩
abbrev zm_X1_drawn : zY := (yX1_drawn, RX1, cX1_drawn, 6, (some (.int)), [])
theorem zmM_X1_drawn : zM zm_X1_drawn 3 := ⟨by decide +kernel, rfl, by decide +kernel, by decide +kernel, by decide +kernel, by decide⟩
abbrev zm_X1_school : zY := (yX1_school, RX1, cX1_school, 3, (some (.int)), [])
theorem zmM_X1_school : zM zm_X1_school 2 := ⟨by decide +kernel, rfl, by decide +kernel, by decide +kernel, by decide +kernel, by decide⟩
abbrev zm_X1_findSchools : zY := (yX1_findSchools, RX1, cX1_findSchools, 3, none, [])
theorem zmM_X1_findSchools : zM zm_X1_findSchools 0 := ⟨by decide +kernel, rfl, by decide +kernel, by decide +kernel, by decide +kernel, by decide⟩
abbrev zm_X1_right : zY := (yX1_right, RX1, cX1_right, 3, (some (.int)), [])
theorem zmM_X1_right : zM zm_X1_right 1 := ⟨by decide +kernel, rfl, by decide +kernel, by decide +kernel, by decide +kernel, by decide⟩
abbrev zm_X1_killer : zY := (yX1_killer, RX1, cX1_killer, 6, (some (.int)), [])
theorem zmM_X1_killer : zM zm_X1_killer 1 := ⟨by decide +kernel, rfl, by decide +kernel, by decide +kernel, by decide +kernel, by decide⟩
abbrev zm_X1_together : zY := (yX1_together, RX1, cX1_together, 3, (some (.long)), [])
theorem zmM_X1_together : zM zm_X1_together 2 := ⟨by decide +kernel, rfl, by decide +kernel, by decide +kernel, by decide +kernel, by decide⟩
abbrev zm_X1_following : zY := (yX1_following, RX1, cX1_following, 5, (some (.int)), [])
theorem zmM_X1_following : zM zm_X1_following 2 := ⟨by decide +kernel, rfl, by decide +kernel, by decide +kernel, by decide +kernel, by decide⟩
abbrev zm_X1_eldest : zY := (yX1_eldest, RX1, cX1_eldest, 4, (some (.int)), [])
theorem zmM_X1_eldest : zM zm_X1_eldest 1 := ⟨by decide +kernel, rfl, by decide +kernel, by decide +kernel, by decide +kernel, by decide⟩
abbrev zm_X1_quarrels : zY := (yX1_quarrels, RX1, cX1_quarrels, 5, (some (.int)), [])
theorem zmM_X1_quarrels : zM zm_X1_quarrels 1 := ⟨by decide +kernel, rfl, by decide +kernel, by decide +kernel, by decide +kernel, by decide⟩
abbrev zm_X1_doFallOut : zY := (yX1_doFallOut, RX1, cX1_doFallOut, 4, (some (.boolean)), [])
theorem zmM_X1_doFallOut : zM zm_X1_doFallOut 3 := ⟨by decide +kernel, rfl, by decide +kernel, by decide +kernel, by decide +kernel, by decide⟩
abbrev zm_X1_peace : zY := (yX1_peace, RX1, cX1_peace, 4, (some (.int)), [])
theorem zmM_X1_peace : zM zm_X1_peace 1 := ⟨by decide +kernel, rfl, by decide +kernel, by decide +kernel, by decide +kernel, by decide⟩
abbrev zm_X1_isPeace : zY := (yX1_isPeace, RX1, cX1_isPeace, 5, (some (.boolean)), [])
theorem zmM_X1_isPeace : zM zm_X1_isPeace 2 := ⟨by decide +kernel, rfl, by decide +kernel, by decide +kernel, by decide +kernel, by decide⟩
abbrev zm_X1_worst : zY := (yX1_worst, RX1, cX1_worst, 2, (some (.long)), [])
theorem zmM_X1_worst : zM zm_X1_worst 1 := ⟨by decide +kernel, rfl, by decide +kernel, by decide +kernel, by decide +kernel, by decide⟩
abbrev zm_X1_hurtsBy : zY := (yX1_hurtsBy, RX1, cX1_hurtsBy, 7, none, [])
theorem zmM_X1_hurtsBy : zM zm_X1_hurtsBy 3 := ⟨by decide +kernel, rfl, by decide +kernel, by decide +kernel, by decide +kernel, by decide⟩
abbrev zm_X1_century : zY := (yX1_century, RX1, cX1_century, 6, (some (.int)), [])
theorem zmM_X1_century : zM zm_X1_century 3 := ⟨by decide +kernel, rfl, by decide +kernel, by decide +kernel, by decide +kernel, by decide⟩
abbrev zm_X1_known : zY := (yX1_known, RX1, cX1_known, 5, (some (.int)), [])
theorem zmM_X1_known : zM zm_X1_known 2 := ⟨by decide +kernel, rfl, by decide +kernel, by decide +kernel, by decide +kernel, by decide⟩
abbrev zm_X1_plain : zY := (yX1_plain, RX1, cX1_plain, 2, (some (.int)), [])
theorem zmM_X1_plain : zM zm_X1_plain 1 := ⟨by decide +kernel, rfl, by decide +kernel, by decide +kernel, by decide +kernel, by decide⟩
abbrev zm_X1_findLengths : zY := (yX1_findLengths, RX1, cX1_findLengths, 5, none, [])
theorem zmM_X1_findLengths : zM zm_X1_findLengths 0 := ⟨by decide +kernel, rfl, by decide +kernel, by decide +kernel, by decide +kernel, by decide⟩
abbrev zm_X1_shortens : zY := (yX1_shortens, RX1, cX1_shortens, 3, (some (.boolean)), [])
theorem zmM_X1_shortens : zM zm_X1_shortens 2 := ⟨by decide +kernel, rfl, by decide +kernel, by decide +kernel, by decide +kernel, by decide⟩
abbrev zm_X1_asks : zY := (yX1_asks, RX1, cX1_asks, 7, (some (.int)), [])
theorem zmM_X1_asks : zM zm_X1_asks 1 := ⟨by decide +kernel, rfl, by decide +kernel, by decide +kernel, by decide +kernel, by decide⟩
abbrev zm_X1_war : zY := (yX1_war, RX1, cX1_war, 5, (some (.int)), [])
theorem zmM_X1_war : zM zm_X1_war 1 := ⟨by decide +kernel, rfl, by decide +kernel, by decide +kernel, by decide +kernel, by decide⟩
abbrev zm_X1_canon : zY := (yX1_canon, RX1, cX1_canon, 5, (some (.int)), [])
theorem zmM_X1_canon : zM zm_X1_canon 1 := ⟨by decide +kernel, rfl, by decide +kernel, by decide +kernel, by decide +kernel, by decide⟩
abbrev zm_X1_judge : zY := (yX1_judge, RX1, cX1_judge, 5, (some (.int)), [])
theorem zmM_X1_judge : zM zm_X1_judge 4 := ⟨by decide +kernel, rfl, by decide +kernel, by decide +kernel, by decide +kernel, by decide⟩
abbrev zm_X2_init : zY := (yX2_init, RX2, cX2_init, 1, none, [])
theorem zmM_X2_init : zM zm_X2_init 0 := ⟨by decide +kernel, rfl, by decide +kernel, by decide +kernel, by decide +kernel, by decide⟩
abbrev zm_X2_left : zY := (yX2_left, RX2, cX2_left, 5, (some (.long)), [])
theorem zmM_X2_left : zM zm_X2_left 1 := ⟨by decide +kernel, rfl, by decide +kernel, by decide +kernel, by decide +kernel, by decide⟩
abbrev zm_X2_all : zY := (yX2_all, RX2, cX2_all, 1, (some (.long)), [])
theorem zmM_X2_all : zM zm_X2_all 0 := ⟨by decide +kernel, rfl, by decide +kernel, by decide +kernel, by decide +kernel, by decide⟩
abbrev zm_X2_worlds : zY := (yX2_worlds, RX2, cX2_worlds, 1, (some (.int)), [])
theorem zmM_X2_worlds : zM zm_X2_worlds 0 := ⟨by decide +kernel, rfl, by decide +kernel, by decide +kernel, by decide +kernel, by decide⟩
abbrev zm_X2_models : zY := (yX2_models, RX2, cX2_models, 5, (some (.long)), [])
theorem zmM_X2_models : zM zm_X2_models 1 := ⟨by decide +kernel, rfl, by decide +kernel, by decide +kernel, by decide +kernel, by decide⟩
abbrev zm_X3_init : zY := (yX3_init, RX3, cX3_init, 1, none, [])
theorem zmM_X3_init : zM zm_X3_init 0 := ⟨by decide +kernel, rfl, by decide +kernel, by decide +kernel, by decide +kernel, by decide⟩
abbrev zm_X3_falls : zY := (yX3_falls, RX3, cX3_falls, 3, (some (.int)), [])
theorem zmM_X3_falls : zM zm_X3_falls 1 := ⟨by decide +kernel, rfl, by decide +kernel, by decide +kernel, by decide +kernel, by decide⟩
abbrev zm_X4_init : zY := (yX4_init, RX4, cX4_init, 1, none, [])
theorem zmM_X4_init : zM zm_X4_init 0 := ⟨by decide +kernel, rfl, by decide +kernel, by decide +kernel, by decide +kernel, by decide⟩
abbrev zm_X4_become : zY := (yX4_become, RX4, cX4_become, 2, none, [])
theorem zmM_X4_become : zM zm_X4_become 1 := ⟨by decide +kernel, rfl, by decide +kernel, by decide +kernel, by decide +kernel, by decide⟩
abbrev zm_X5_init : zY := (yX5_init, RX5, cX5_init, 2, none, [])
theorem zmM_X5_init : zM zm_X5_init 1 := ⟨by decide +kernel, rfl, by decide +kernel, by decide +kernel, by decide +kernel, by decide⟩
abbrev zm_X5_begins : zY := (yX5_begins, RX5, cX5_begins, 3, (some (.object "LotBeliefs$School")), [])
theorem zmM_X5_begins : zM zm_X5_begins 1 := ⟨by decide +kernel, rfl, by decide +kernel, by decide +kernel, by decide +kernel, by decide⟩
abbrev zm_X5_goes : zY := (yX5_goes, RX5, cX5_goes, 5, none, [])
theorem zmM_X5_goes : zM zm_X5_goes 2 := ⟨by decide +kernel, rfl, by decide +kernel, by decide +kernel, by decide +kernel, by decide⟩
abbrev zm_X5_kills : zY := (yX5_kills, RX5, cX5_kills, 3, none, [])
theorem zmM_X5_kills : zM zm_X5_kills 2 := ⟨by decide +kernel, rfl, by decide +kernel, by decide +kernel, by decide +kernel, by decide⟩
abbrev zm_X5_leaves : zY := (yX5_leaves, RX5, cX5_leaves, 3, none, [])
theorem zmM_X5_leaves : zM zm_X5_leaves 1 := ⟨by decide +kernel, rfl, by decide +kernel, by decide +kernel, by decide +kernel, by decide⟩
abbrev zm_X5_meets : zY := (yX5_meets, RX5, cX5_meets, 6, none, [])
theorem zmM_X5_meets : zM zm_X5_meets 2 := ⟨by decide +kernel, rfl, by decide +kernel, by decide +kernel, by decide +kernel, by decide⟩
abbrev zm_X5_fallsOf : zY := (yX5_fallsOf, RX5, cX5_fallsOf, 4, (some (.int)), [])
theorem zmM_X5_fallsOf : zM zm_X5_fallsOf 3 := ⟨by decide +kernel, rfl, by decide +kernel, by decide +kernel, by decide +kernel, by decide⟩
abbrev zm_X5_falls : zY := (yX5_falls, RX5, cX5_falls, 4, none, [])
theorem zmM_X5_falls : zM zm_X5_falls 3 := ⟨by decide +kernel, rfl, by decide +kernel, by decide +kernel, by decide +kernel, by decide⟩
abbrev zm_X5_end : zY := (yX5_end, RX5, cX5_end, 1, (some (.int)), [])
theorem zmM_X5_end : zM zm_X5_end 0 := ⟨by decide +kernel, rfl, by decide +kernel, by decide +kernel, by decide +kernel, by decide⟩
abbrev zm_X5_worlds : zY := (yX5_worlds, RX5, cX5_worlds, 4, (some (.long)), [])
theorem zmM_X5_worlds : zM zm_X5_worlds 0 := ⟨by decide +kernel, rfl, by decide +kernel, by decide +kernel, by decide +kernel, by decide⟩

