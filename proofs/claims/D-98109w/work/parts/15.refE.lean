/-! ===== the reference: a jar is read ===== -/
def mxF (a k : Nat) : Prop := tF a k ∨ (a = aT ∧ (k = tf_tape ∨ k = tf_place ∨ k = tf_question))
/-- what is taped, where a fault is, the question -/
def sMisc (S : zS) (t : Nat) (pl : Int32) (qu : Int64) : zS := (zu2 S.1 0 7 t, zu2 S.2.1 3 0 qu, zu2 S.2.2.1 1 0 pl, S.2.2.2)
theorem sMisc_7 {S : zS} {t : Nat} {pl : Int32} {qu : Int64} : sN (sMisc S t pl qu) 0 7 = t := (show zu2 S.1 0 7 t 0 7 = t from zu2_s)
theorem TW.misc {n n' : zg_N} {S : zS} (h : TW n S) (hW : WF S) (t : Nat) (pl : Int32) (qu : Int64) (hf : zFr mxF tA n n') (h1 : zfi n' aT tf_tape = nI t) (ht : t ≤ sN S 0 7) (h2 : zfi n' aT tf_place = pl) (h3 : zfl n' aT tf_question = qu) : TW n' (sMisc S t pl qu) := by
  have hi : ∀ k, ¬ mxF aT k → zfi n' aT k = zfi n aT k := fun k q => (hf.1 _ _ q).1
  have ha : ∀ a, ¬ tA a → ∀ j, zai n' a j = zai n a j := fun a q j => (hf.2 a q j).1
  have hb : ∀ a, ¬ tA a → ∀ j, zal n' a j = zal n a j := fun a q j => (hf.2 a q j).2
  have hni : ¬ mxF aT tf_images := fun z => by
    rcases z with z | ⟨_, z | z | z⟩
    · unfold tF at z; omega
    all_goals exact absurd z (by decide)
  have hnw : ¬ mxF aT tf_whos := fun z => by
    rcases z with z | ⟨_, z | z | z⟩
    · unfold tF at z; omega
    all_goals exact absurd z (by decide)
  obtain ⟨a1, a2, a3, a4, a5, a6, ⟨a7, a8⟩, ⟨a9, a10⟩, a11, a12, a13, c, N, a14, a15, a16⟩ := h
  have hw10 : (sT S).length ≤ 10 := hW.tl
  have hi3 : sN S 0 6 ≤ 3 := hW.imgs
  have e0 : ∀ a k, ¬ (a = 0 ∧ k = 7) → sN (sMisc S t pl qu) a k = sN S a k := fun a k h => if_neg h
  have e1 : ∀ a k, a ≠ 3 → sL (sMisc S t pl qu) a k = sL S a k := fun a k h => zu2_b h
  have h01 := e0 0 1 (by decide); have h02 := e0 0 2 (by decide); have h03 := e0 0 3 (by decide); have h06 := e0 0 6 (by decide)
  refine ⟨fun k hk => ?_, fun k hk => ?_, fun k hk => ⟨?_, ?_⟩, fun k hk => ?_, fun k hk => ?_, h3.trans (show qu = zu2 S.2.1 3 0 qu 3 0 from zu2_s.symm), ⟨?_, fun i hi2 j hj => ?_⟩, ⟨h1.trans (by rw [sMisc_7]), fun k hk => ?_⟩, h2.trans (show pl = zu2 S.2.2.1 1 0 pl 1 0 from zu2_s.symm), fun k hk => ?_, ?_, c, N, a14, fun i hi2 => ⟨?_, ?_⟩, fun k q hq => ?_⟩
  · rw [ha at_told (by unfold tA; omega), e0 0 k (by omega)]; exact a1 k hk
  · unfold okb at hk; rw [h01, h03] at hk
    rw [hb at_models (by unfold tA; omega), e1 0 k (by decide)]; exact a2 k hk
  · rw [h02] at hk; rw [ha at_seeWeek (by unfold tA; omega), e0 1 k (by omega)]; exact (a3 k hk).1
  · rw [h02] at hk; rw [hb at_seen (by unfold tA; omega), e1 1 k (by decide)]; exact (a3 k hk).2
  · rw [hb at_leftIn (by unfold tA; omega), e1 2 k (by decide)]; exact a4 k hk
  · rw [ha at_order (by unfold tA; omega), e0 2 k (by omega)]; exact a5 k hk
  · rw [hi tf_images hni, h06]; exact a7
  · rw [h06] at hi2; rw [ha (at_kept + 1 + i) (by unfold tA; omega), e0 (10 + i) j (by omega)]; exact a8 i hi2 j hj
  · replace hk : k < t := by have h9 := @sMisc_7 S t pl qu; omega
    rw [ha at_fed (by unfold tA; omega), e0 3 k (by omega)]; exact a10 k (by omega)
  · rw [ha at_refused (by unfold tA; omega)]
    show _ = zu2 S.2.2.1 1 0 pl 0 k
    rw [zu2_b (by decide)]; exact a12 k hk
  · rw [hi tf_whos hnw]; exact a13
  · rw [ha (at_code + 1 + i) (by unfold tA; omega)]; exact (a15 i hi2).1
  · rw [ha (at_code + 1 + i) (by unfold tA; omega)]; exact (a15 i hi2).2
  · have hk : k < (sT S).length := (List.getElem?_eq_some_iff.mp hq).1
    obtain ⟨i, m, b1, b2, b3, b4, b5⟩ := a16 k q hq
    have := ha (at_who + 1 + k) (by unfold tA; omega)
    exact ⟨i, m, b1, (this 0).trans b2, (this 1).trans b3, (this 2).trans b4, b5⟩
theorem WF.misc {S : zS} (h : WF S) (t : Nat) (pl : Int32) (qu : Int64) (ht : t ≤ sN S 0 7) : WF (sMisc S t pl qu) := by
  have e0 : ∀ a k, ¬ (a = 0 ∧ k = 7) → sN (sMisc S t pl qu) a k = sN S a k := fun a k h => if_neg h
  have e1 : ∀ a k, a ≠ 3 → sL (sMisc S t pl qu) a k = sL S a k := fun a k h => zu2_b h
  have e7 : sN (sMisc S t pl qu) 0 7 = t := sMisc_7
  obtain ⟨⟨a1, a2, a3, a4, a5, a6, a7, a8, a9⟩, b2, ⟨b3, b4⟩, b5, b6, b7, b8, b9, b10⟩ := h
  refine ⟨⟨a1, a2, a3, a4, a5, a6, a7, a8, by rw [e7]; omega⟩, b2, ⟨b3, b4⟩, fun k hk => ?_, fun i hi => ?_, fun k hk => ?_, fun w hw => ?_, b9, b10⟩
  · rw [e7] at hk; rw [e0 3 k (by omega)]; exact b5 k (by omega)
  · have h := b6 i hi
    refine ⟨?_, ?_, fun k hk => ?_, ?_⟩
    · rw [e0 (10 + i) 0 (by omega)]; exact h.1
    · rw [e0 (10 + i) 1 (by omega)]; exact h.2.1
    · rw [e0 (10 + i) (2 + k) (by omega)]; exact h.2.2.1 k hk
    · rw [show (fun k => sN (sMisc S t pl qu) (10 + i) (2 + k)) = (fun k => sN S (10 + i) (2 + k)) from funext fun k => e0 _ _ (by omega)]; exact h.2.2.2
  · rw [e1 0 k (by decide)]; exact b7 k hk
  · rw [e1 2 w (by decide)]; exact b8 w hw
/-- a jar stands: nothing of what was told before -/
def sJar (S : zS) (J : zJ) : zS := (fun a k => if a = 0 then (if k < 6 then J.1 k else 0) else if a = 1 then J.2.1 k else if a = 2 then k else S.1 a k, fun a k => if a = 0 then J.2.2.1 k else if a = 1 then J.2.2.2 k else if a = 2 then jLf J k (J.1 2) else if a = 3 then wAll (J.1 0) else S.2.1 a k, zu2 S.2.2.1 1 0 (-1), [])
theorem WF.jar {S : zS} {J : zJ} (h : JOk J) : WF (sJar S J) := by
  obtain ⟨⟨a1, a2⟩, ⟨a3, a4, a5⟩, a6, a7, a8, a9, a10, a11, a12, a13⟩ := h
  have hl : ∀ w m, m ≤ J.1 2 → jLf J w m &&& wAll (J.1 0) = jLf J w m := fun w m => by
    induction m with
    | zero => intro _; exact wAll_self _
    | succ m ih => intro hm; rw [jLf]; exact wAll_and2 (ih (by omega))
  refine ⟨⟨a1, a2, a3, a4, a5, a6, a7, Nat.zero_le _, Nat.zero_le _⟩, a10, ⟨fun k hk => hk, fun k hk => hk, fun i j _ _ h => h⟩, fun k hk => absurd hk (Nat.not_lt_zero _), fun i hi => absurd hi (Nat.not_lt_zero _), fun k hk => ?_, fun w hw => hl w _ (Nat.le_refl _), Nat.zero_le _, fun q hq => nomatch hq⟩
  rcases hk with hk | ⟨h1, h2⟩
  · exact a11 k hk
  · obtain ⟨j, rfl⟩ : ∃ j, k = 12 + j := ⟨k - 12, by omega⟩
    exact a12 j (by have : 12 + j < 12 + J.1 3 := h2; omega)
/-- the reference holds the jar that stands -/
theorem TW.jar {n : zg_N} {S : zS} {J : zJ} (hS : TSt n J) (h1 : zfi n aT tf_tape = 0) (h2 : zfi n aT tf_place = -1) (h3 : ∀ k, k < 3 → zai n at_refused k = sI S 0 k) : TW n (sJar S J) := by
  obtain ⟨a1, a2, a3, a4, a5, a6, a7, a8⟩ := hS
  refine ⟨fun k hk => ?_, fun k hk => a2 k hk, fun k hk => a3 k hk, a4, a5, a6, ⟨a8, fun i hi => absurd hi (Nat.not_lt_zero _)⟩, ⟨h1, fun k hk => absurd hk (Nat.not_lt_zero _)⟩, h2.trans (show (-1 : Int32) = zu2 S.2.2.1 1 0 (-1) 1 0 from zu2_s.symm), fun k hk => ?_, a7, fun _ => (0, 0), 0, Nat.zero_le _, fun i hi => absurd hi (Nat.not_lt_zero _), fun k q hq => nomatch hq⟩
  · show _ = nI (if k < 6 then J.1 k else 0)
    rw [if_pos hk]; exact a1 k hk
  · rw [h3 k hk]; show _ = zu2 S.2.2.1 1 0 (-1) 0 k
    rw [zu2_b (by decide)]
def sF2 (a k : Nat) : Prop := jF a k ∨ (a = aT ∧ (k = tf_tape ∨ k = tf_size))
theorem t_starts {g : zg_G} {n : zg_N} {b : Nat → Nat} {N : Nat} (hM : TSh g) (hN : N ≤ 600) (hb : ∀ k, k < N → zai n at_fed k = nI (b k) ∧ b k < 256) : PW zm_X6_starts 3 (fun o g1 n1 => o = .inl none ∧ g1 = g ∧ TRd n1 b N (skp b N 0) 0 ∧ zfi n1 aT tf_clauses = 0 ∧ zfi n1 aT tf_tape = 0 ∧ zFr sF2 rA n n1) 0 0 0 [(0, .ref aT), (1, .int (nI N))] [] g n := by
  refine pw_aload_n dX6_starts_0 0 rfl rfl ?_
  refine pw_iconst (v := 0) dX6_starts_1 (by decide) ?_
  refine pw_puti 1 zc_X6 (ts_this hM) (by decide) (by decide) q1987 rfl (Or.inl rfl) rfl rfl dX6_starts_2 ?_
  refine pw_aload_n dX6_starts_5 0 rfl rfl ?_
  refine pw_iload_n dX6_starts_6 1 rfl rfl ?_
  refine pw_puti 2 zc_X6 (ts_this hM) (by decide) (by decide) q1988 rfl (Or.inl rfl) rfl rfl dX6_starts_7 ?_
  refine pw_aload_n dX6_starts_10 0 rfl rfl ?_
  refine pw_iconst (v := 0) dX6_starts_11 (by decide) ?_
  refine pw_puti 4 zc_X6 (ts_this hM) (by decide) (by decide) q1990 rfl (Or.inl rfl) rfl rfl dX6_starts_12 ?_
  refine pw_aload_n dX6_starts_15 0 rfl rfl ?_
  refine pw_iconst (v := 0) dX6_starts_16 (by decide) ?_
  refine pw_puti 5 zc_X6 (ts_this hM) (by decide) (by decide) q1991 rfl (Or.inl rfl) rfl rfl dX6_starts_17 ?_
  refine pw_aload_n dX6_starts_20 0 rfl rfl ?_
  refine pw_iconst (v := (-1)) dX6_starts_21 (by decide) ?_
  refine pw_puti 6 zc_X6 (ts_this hM) (by decide) (by decide) q1992 rfl (Or.inl rfl) rfl rfl dX6_starts_22 ?_
  refine pw_aload_n dX6_starts_25 0 rfl rfl ?_
  refine pw_iconst (v := 0) dX6_starts_26 (by decide) ?_
  refine pw_puti 7 zc_X6 (ts_this hM) (by decide) (by decide) q1993 rfl (Or.inl rfl) rfl rfl dX6_starts_27 ?_
  refine pw_aload_n dX6_starts_30 0 rfl rfl ?_
  refine pw_iconst (v := 0) dX6_starts_31 (by decide) ?_
  refine pw_puti 8 zc_X6 (ts_this hM) (by decide) (by decide) q1994 rfl (Or.inl rfl) rfl rfl dX6_starts_32 ?_
  have hf : zFr sF2 rA n (zpfi (zpfi (zpfi (zpfi (zpfi (zpfi (zpfi n aT tf_tape 0) aT tf_size (nI N)) aT tf_at 0) aT tf_fault 0) aT tf_faultAt (-1)) aT tf_clauses 0) aT tf_open 0) := ((((((zFr.rf.pfi (Or.inr ⟨rfl, Or.inl rfl⟩)).pfi (Or.inr ⟨rfl, Or.inr rfl⟩)).pfi (Or.inl (Or.inl rF_at))).pfi (Or.inl (Or.inl rF_fl))).pfi (Or.inl (Or.inl rF_fa))).pfi (Or.inl (Or.inr ⟨rfl, rfl⟩))).pfi (Or.inl (Or.inl rF_op))
  have hR : TRd (zpfi (zpfi (zpfi (zpfi (zpfi (zpfi (zpfi n aT tf_tape 0) aT tf_size (nI N)) aT tf_at 0) aT tf_fault 0) aT tf_faultAt (-1)) aT tf_clauses 0) aT tf_open 0) b N 0 0 := ⟨⟨rfl, hN, fun k hk => hb k hk⟩, rfl, rfl, rfl, Nat.zero_le _, rfl⟩
  have hc : zfi (zpfi (zpfi (zpfi (zpfi (zpfi (zpfi (zpfi n aT tf_tape 0) aT tf_size (nI N)) aT tf_at 0) aT tf_fault 0) aT tf_faultAt (-1)) aT tf_clauses 0) aT tf_open 0) aT tf_clauses = 0 := rfl
  have ht : zfi (zpfi (zpfi (zpfi (zpfi (zpfi (zpfi (zpfi n aT tf_tape 0) aT tf_size (nI N)) aT tf_at 0) aT tf_fault 0) aT tf_faultAt (-1)) aT tf_clauses 0) aT tf_open 0) aT tf_tape = 0 := rfl
  generalize zpfi (zpfi (zpfi (zpfi (zpfi (zpfi (zpfi n aT tf_tape 0) aT tf_size (nI N)) aT tf_at 0) aT tf_fault 0) aT tf_faultAt (-1)) aT tf_clauses 0) aT tf_open 0 = n1 at hf hR hc ht ⊢
  refine pw_aload_n dX6_starts_35 0 rfl rfl ?_
  refine pw_callV0 zmM_X6_blanks rfl (lw_V q2196 q2198 qs64 q150 q2199) rfl (ts_this hM) zc_X6 (t_blk hM hR) (by decide) (Nat.le_refl _) (Nat.le_refl _) rfl (Nat.le_of_ble_eq_true rfl) (Nat.le_of_ble_eq_true rfl) dX6_starts_36 (by intros; rintro ⟨h, _⟩; cases h) (fun v2 g2 n2 h2 => ?_)
  obtain ⟨h2, rfl, hR2, hf2⟩ := h2; cases h2
  refine pw_vret rfl dX6_starts_39 ?_
  exact ⟨rfl, rfl, hR2, ((hf2.1 aT tf_clauses (fun z => by rcases z.2 with z | z | z | z <;> exact absurd z (by decide))).1).trans hc, ((hf2.1 aT tf_tape (fun z => by rcases z.2 with z | z | z | z <;> exact absurd z (by decide))).1).trans ht, hf.tr (hf2.mono (fun _ _ z => Or.inl (Or.inl z)) (fun _ z => z))⟩
theorem skp_idem {b : Nat → Nat} {N q : Nat} (h : skp b N q = q) : ∀ p, p = q → skp b N p = q := fun p e => e ▸ h
def sp_jar (S : zS) (x : Int32) : Int32 × Value × zS := spNeed S (inB x (sN S 0 7 + 1)) 1 1 (.int 0) (match pJar (sN S 3) x.toNatClampNeg with
  | .inl e => (0, .int (nI e.1 - 10), sMisc S 0 (nI e.2) (sL S 3 0))
  | .inr q => (0, .int (nI (q.1.1 1)), sJar S q.1))
theorem rF_tF : ∀ a k, rF a k → tF a k := fun a k h => by
  obtain ⟨rfl, h⟩ := h
  rcases h with rfl | rfl | rfl | rfl <;> exact ⟨rfl, by decide, by decide, by decide, by decide, by decide⟩
theorem jF_tF : ∀ a k, jF a k → tF a k := fun a k h => by
  rcases h with h | ⟨rfl, rfl⟩
  · exact rF_tF a k h
  · exact ⟨rfl, by decide, by decide, by decide, by decide, by decide⟩
theorem jA_tA : ∀ a, jA a → tA a := fun a h => by rcases h with rfl | rfl | rfl | rfl <;> (unfold tA; decide)
theorem sF2_mx : ∀ a k, sF2 a k → mxF a k := fun a k h => by
  rcases h with h | ⟨rfl, rfl | rfl⟩
  · exact Or.inl (jF_tF a k h)
  · exact Or.inr ⟨rfl, Or.inl rfl⟩
  · exact Or.inl ⟨rfl, by decide, by decide, by decide, by decide, by decide⟩
def rdF (a k : Nat) : Prop := sF2 a k ∨ (a = aT ∧ k = tf_place)
theorem rdF_mx : ∀ a k, rdF a k → mxF a k := fun a k h => by
  rcases h with h | ⟨rfl, h⟩
  · exact sF2_mx a k h
  · exact Or.inr ⟨rfl, Or.inr (Or.inl h)⟩
theorem rdF_no {k : Nat} (h : k = tf_thrown ∨ k = tf_question ∨ k = tf_images ∨ k = tf_whos) : ¬ rdF aT k := fun z => by
  rcases z with ((⟨_, z | z | z | z⟩ | ⟨_, z⟩) | ⟨_, z | z⟩) | ⟨_, z⟩ <;> rw [z] at h <;> revert h <;> decide
theorem rd_X : ∀ a k, rdF a k → tXF a k := fun a k h => by
  rcases h with ((⟨h, _⟩ | ⟨h, _⟩) | ⟨h, _⟩) | ⟨h, _⟩ <;> exact h
theorem jA_X : ∀ a, jA a → tXA a := fun a h => tA_X a (jA_tA a h)
theorem stF_X : ∀ a k, stF a k → tXF a k := fun a k h => h.1
theorem stA_X : ∀ a, stA a → tXA a := fun a h => by rcases h with rfl | rfl | rfl | rfl | rfl | rfl <;> (constructor <;> decide)
theorem jrd {n n' : zg_N} (h : zFr jF jA n n') : zFr rdF jA n n' := h.mono (fun _ _ z => Or.inl (Or.inl z)) (fun _ z => z)
theorem jF_no {k : Nat} (h : k = tf_tape ∨ k = tf_place) : ¬ jF aT k := fun z => by
  rcases z with ⟨_, z | z | z | z⟩ | ⟨_, z⟩ <;> rw [z] at h <;> revert h <;> decide
/-- a fault is told, and nothing else -/
theorem t_failed {g : zg_G} {n n0 n1 : zg_N} {S : zS} (hT0 : TW n0 S) (hW : WF S) (hth0 : zfi n0 aT tf_thrown = 0) (hf0 : zFr tXF tXA n n0) {e : Nat × Nat} (hF : TFl n1 e) (ht : zfi n1 aT tf_tape = 0) (hf : zFr rdF jA n0 n1) : tQ g n (0, .int (nI e.1 - 10), sMisc S 0 (nI e.2) (sL S 3 0)) (.inl (some (.int (nI e.1 - 10)))) g (zpfi n1 aT tf_place (zfi n1 aT tf_faultAt)) := by
  have hf2 := hf.pfi (v := zfi n1 aT tf_faultAt) (show rdF aT tf_place from Or.inr ⟨rfl, rfl⟩)
  refine ⟨rfl, rfl, ?_, ((hf2.1 aT tf_thrown (rdF_no (Or.inl rfl))).1).trans hth0, hf0.tr (hf2.mono rd_X jA_X)⟩
  exact hT0.misc hW 0 _ _ (hf2.mono rdF_mx jA_tA) ht (Nat.zero_le _) hF.2.1 (((hf2.1 aT tf_question (rdF_no (Or.inr (Or.inl rfl)))).2).trans hT0.qu)
theorem t_jar {g : zg_G} {n : zg_N} {S : zS} (hM : TSh g) (hT : TW n S) (hW : WF S) (x : Int32) : PW zm_X6_jar 30 (tQ g n (sp_jar S x)) 0 0 0 [(0, .ref aT), (1, .int x)] [] g n := by
  have h600 := hW.taped
  have hlp : ∀ (N : Nat) (n0 : zg_N), N ≤ sN S 0 7 → TW n0 S → zfi n0 aT tf_thrown = 0 → zFr tXF tXA n n0 → sp_jar S x = (match pJar (sN S 3) N with | .inl e => (0, .int (nI e.1 - 10), sMisc S 0 (nI e.2) (sL S 3 0)) | .inr q => (0, .int (nI (q.1.1 1)), sJar S q.1)) →
      ∀ m J p n1, pJar (sN S 3) N = pJr (sN S 3) N m J p → pOk (pJr (sN S 3) N m J p) → skp (sN S 3) N p = p → JOk J → TJ n1 J → TRd n1 (sN S 3) N p 0 → zfi n1 aT tf_tape = 0 → zFr rdF jA n0 n1 →
      PW zm_X6_jar 30 (tQ g n (sp_jar S x)) 0 0 42 [(0, .ref aT), (1, .int x)] [] g n1 := by
    intro N n0 hN hT0 hth0 hf0 hsp m
    induction m with
    | zero => intro J p n1 _ hok; exact absurd rfl hok
    | succ m ih =>
      intro J p n1 he hok hsk hO hJ hR ht hf
      rw [pJr] at he hok
      refine pw_aload_n dX6_jar_42 0 rfl rfl ?_
      refine pw_geti 5 zc_X6 (ts_this hM) (by decide) q1991 (Or.inl rfl) dX6_jar_43 ?_
      refine pw_if_ne 71 dX6_jar_46 (by decide) (fun c_46 => ?_) (fun c_46 => ?_)
      · exact absurd hR.2.1 c_46
      · refine pw_aload_n dX6_jar_49 0 rfl rfl ?_
        refine pw_geti 4 zc_X6 (ts_this hM) (by decide) q1990 (Or.inl rfl) dX6_jar_50 ?_
        rw [hR.2.2.1]
        refine pw_aload_n dX6_jar_53 0 rfl rfl ?_
        refine pw_geti 2 zc_X6 (ts_this hM) (by decide) q1988 (Or.inl rfl) dX6_jar_54 ?_
        rw [hR.1.1]
        have hpN := hR.2.2.2.2.1
        refine pw_icmp_ge_N 71 dX6_jar_57 (by decide) (by omega) (by omega) (fun c_57 => ?_) (fun c_57 => ?_)
        · rw [if_neg (by omega)] at he
          rw [hsp, he]
          refine pw_aload_n dX6_jar_71 0 rfl rfl ?_
          refine pw_aload_n dX6_jar_72 0 rfl rfl ?_
          refine pw_geti 6 zc_X6 (ts_this hM) (by decide) q1992 (Or.inl rfl) dX6_jar_73 ?_
          rw [hR.2.2.2.2.2]
          refine pw_puti 3 zc_X6 (ts_this hM) (by decide) (by decide) q1989 rfl (Or.inl rfl) rfl rfl dX6_jar_76 ?_
          refine pw_aload_n dX6_jar_79 0 rfl rfl ?_
          refine pw_geti 5 zc_X6 (ts_this hM) (by decide) q1991 (Or.inl rfl) dX6_jar_80 ?_
          refine pw_if_eq 94 dX6_jar_83 (by decide) (fun c_83 => ?_) (fun c_83 => ?_)
          · refine pw_aload_n dX6_jar_94 0 rfl rfl ?_
            refine pw_callV0 zmM_X6_stands rfl (lw_V q1979 q1981 qs61 q150 q1982) rfl (ts_this hM) zc_X6 (t_stands hM hO (n := zpfi n1 aT tf_place (-1)) hJ) (by decide) (Nat.le_refl _) (Nat.le_refl _) rfl (Nat.le_of_ble_eq_true rfl) (Nat.le_of_ble_eq_true rfl) dX6_jar_95 (by intros; rintro ⟨h, _⟩; cases h) (fun v3 g3 n3 h3 => ?_)
            obtain ⟨h3, rfl, hS, hf3⟩ := h3; cases h3
            refine pw_aload_n dX6_jar_98 0 rfl rfl ?_
            refine pw_getr 12 zc_X6 (ts_this hM) (by decide) q1998 (Or.inr ⟨_, rfl⟩) (tr_told hM) dX6_jar_99 ?_
            refine pw_iconst (v := 1) dX6_jar_102 (by decide) ?_
            refine pw_iald 1 rfl (ts_told hM) (by decide) (by decide) dX6_jar_103 ?_
            rw [hS.1 1 (by decide)]
            refine pw_iret rfl dX6_jar_104 ?_
            have hf2 := hf.pfi (v := -1) (show rdF aT tf_place from Or.inr ⟨rfl, rfl⟩)
            have hno : ∀ k, k = tf_tape ∨ k = tf_place ∨ k = tf_thrown → ¬ stF aT k := fun k h z => by rcases z with ⟨_, z | z | z⟩ <;> rw [z] at h <;> revert h <;> decide
            refine ⟨rfl, rfl, TW.jar hS (((hf3.1 aT tf_tape (hno _ (Or.inl rfl))).1).trans ht) ((hf3.1 aT tf_place (hno _ (Or.inr (Or.inl rfl)))).1) (fun k hk => ?_), ((hf3.1 aT tf_thrown (hno _ (Or.inr (Or.inr rfl)))).1).trans (((hf2.1 aT tf_thrown (rdF_no (Or.inl rfl))).1).trans hth0), hf0.tr ((hf2.mono rd_X jA_X).tr (hf3.mono stF_X stA_X))⟩
            exact ((hf3.2 at_refused (fun z => by rcases z with z | z | z | z | z | z <;> exact absurd z (by decide)) k).1).trans (((hf2.2 at_refused (fun z => by rcases z with z | z | z | z <;> exact absurd z (by decide)) k).1).trans (hT0.ref hk))
          · exact absurd hR.2.1 c_83
        · rw [if_pos c_57] at he hok
          refine pw_aload_n dX6_jar_60 0 rfl rfl ?_
          refine pw_callV0 zmM_X6_clause rfl (lw_V q2204 q2206 qs66 q150 q2207) rfl (ts_this hM) zc_X6 (t_clause hM hO hR hJ) (by decide) (Nat.le_refl _) (Nat.le_refl _) rfl (Nat.le_of_ble_eq_true rfl) (Nat.le_of_ble_eq_true rfl) dX6_jar_61 (by intros; rintro ⟨h, _⟩; cases h) (fun v3 g3 n3 h3 => ?_)
          obtain ⟨h3, rfl, hf3, hr⟩ := h3
          cases h3
          rw [hsk] at hr
          have hf4 := hf.tr (jrd hf3)
          have ht4 : zfi n3 aT tf_tape = 0 := ((hf3.1 aT tf_tape (jF_no (Or.inl rfl))).1).trans ht
          cases hrr : pCl (sN S 3) N J p with
          | inl e =>
            rw [hrr] at hr he
            obtain ⟨q, hq, hq6⟩ := hr.2.2.2.2
            refine pw_aload_n dX6_jar_64 0 rfl rfl ?_
            refine pw_callV0 zmM_X6_blanks rfl (lw_V q2196 q2198 qs64 q150 q2199) rfl (ts_this hM) zc_X6 (t_blanksF hM _ q n3 (Nat.le_refl _) hq6 (hR.1.keep2 hf3) hq) (by decide) (Nat.le_refl _) (Nat.le_refl _) rfl (Nat.le_of_ble_eq_true rfl) (Nat.le_of_ble_eq_true rfl) dX6_jar_65 (by intros; rintro ⟨h, _⟩; cases h) (fun v5 g5 n5 h5 => ?_)
            obtain ⟨h5, rfl, hat5, hf5⟩ := h5; cases h5
            have hF5 : TFl n5 e := ⟨((hf5.1 aT tf_fault (fun z => absurd z.2 (by decide))).1).trans hr.1, ((hf5.1 aT tf_faultAt (fun z => absurd z.2 (by decide))).1).trans hr.2.1, hr.2.2.1, hr.2.2.2.1, hat5⟩
            have hf6 : zFr rdF jA n0 n5 := hf4.tr (hf5.mono (fun a k z => Or.inl (Or.inl (Or.inl ⟨z.1, Or.inl z.2⟩))) (fun _ z => z.elim))
            have ht6 : zfi n5 aT tf_tape = 0 := ((hf5.1 aT tf_tape (fun z => absurd z.2 (by decide))).1).trans ht4
            refine pw_goto 42 dX6_jar_68 (by decide) ?_
            clear c_57 c_46
            rw [hsp, he]
            refine pw_aload_n dX6_jar_42 0 rfl rfl ?_
            refine pw_geti 5 zc_X6 (ts_this hM) (by decide) q1991 (Or.inl rfl) dX6_jar_43 ?_
            refine pw_if_ne 71 dX6_jar_46 (by decide) (fun c_46 => ?_) (fun c_46 => ?_)
            · refine pw_aload_n dX6_jar_71 0 rfl rfl ?_
              refine pw_aload_n dX6_jar_72 0 rfl rfl ?_
              refine pw_geti 6 zc_X6 (ts_this hM) (by decide) q1992 (Or.inl rfl) dX6_jar_73 ?_
              refine pw_puti 3 zc_X6 (ts_this hM) (by decide) (by decide) q1989 rfl (Or.inl rfl) rfl rfl dX6_jar_76 ?_
              refine pw_aload_n dX6_jar_79 0 rfl rfl ?_
              refine pw_geti 5 zc_X6 (ts_this hM) (by decide) q1991 (Or.inl rfl) dX6_jar_80 ?_
              refine pw_if_eq 94 dX6_jar_83 (by decide) (fun c_83 => ?_) (fun c_83 => ?_)
              · exact absurd c_83 hF5.ne
              · refine pw_aload_n dX6_jar_86 0 rfl rfl ?_
                refine pw_geti 5 zc_X6 (ts_this hM) (by decide) q1991 (Or.inl rfl) dX6_jar_87 ?_
                rw [show zfi (zpfi n5 aT tf_place (zfi n5 aT tf_faultAt)) aT tf_fault = nI e.1 from hF5.1]
                refine pw_bipush (v := 10) dX6_jar_90 (by decide) ?_
                refine pw_isub dX6_jar_92 ?_
                refine pw_iret rfl dX6_jar_93 ?_
                exact t_failed hT0 hW hth0 hf0 hF5 ht6 hf6
            · exact absurd c_46 hF5.ne
          | inr q =>
            rw [hrr] at hr he hok
            refine pw_aload_n dX6_jar_64 0 rfl rfl ?_
            refine pw_callV0 zmM_X6_blanks rfl (lw_V q2196 q2198 qs64 q150 q2199) rfl (ts_this hM) zc_X6 (t_blk hM hr.1) (by decide) (Nat.le_refl _) (Nat.le_refl _) rfl (Nat.le_of_ble_eq_true rfl) (Nat.le_of_ble_eq_true rfl) dX6_jar_65 (by intros; rintro ⟨h, _⟩; cases h) (fun v5 g5 n5 h5 => ?_)
            obtain ⟨h5, rfl, hR5, hf5⟩ := h5; cases h5
            refine pw_goto 42 dX6_jar_68 (by decide) ?_
            exact ih q.1 _ n5 he hok (skp_skp _ _ _) (pCl_ok hO (show pCl (sN S 3) N J p = .inr (q.1, q.2) from hrr)) (hr.2.keep hf5) hR5 (((hf5.1 aT tf_tape (fun z => by rcases z.2 with z | z | z | z <;> exact absurd z (by decide))).1).trans ht4) (hf4.tr (jrd (rjF hf5)))
  refine pw_aload_n dX6_jar_0 0 rfl rfl ?_
  refine pw_iconst (v := 0) dX6_jar_1 (by decide) ?_
  refine pw_puti 0 zc_X6 (ts_this hM) (by decide) (by decide) q1986 rfl (Or.inl rfl) rfl rfl dX6_jar_2 ?_
  obtain ⟨hT0, hth, hf0⟩ := t_start hT hW; generalize zpfi n aT 0 0 = n0 at hT0 hth hf0 ⊢
  refine pw_aload_n dX6_jar_5 0 rfl rfl ?_
  refine pw_iload_n dX6_jar_6 1 rfl rfl ?_
  refine pw_iconst (v := 0) dX6_jar_7 (by decide) ?_
  refine pw_aload_n dX6_jar_8 0 rfl rfl ?_
  refine pw_geti 1 zc_X6 (ts_this hM) (by decide) q1987 (Or.inl rfl) dX6_jar_9 ?_
  rw [hT0.tape]
  refine pw_callS3 zmM_X6_in rfl (lw_S q2185 q2186 q150 q2187) (t_in _ _ _ _ _) (by decide) (Nat.le_refl _) (Nat.le_refl _) rfl (Nat.le_of_ble_eq_true rfl) (Nat.le_of_ble_eq_true rfl) dX6_jar_12 zE.nx (zE_kk ?_)
  refine pw_if_ne_B 22 dX6_jar_15 (by decide) (fun c_15 => ?_) (fun c_15 => ?_)
  · refine pw_iconst (v := 0) dX6_jar_22 (by decide) ?_
    refine pw_iconst (v := 1) dX6_jar_23 (by decide) ?_
    refine pw_iconst (v := 1) dX6_jar_24 (by decide) ?_
    refine pw_callV3 zmM_X6_bad rfl (lw_V q2188 q2190 qs62 q150 q2191) rfl (ts_this hM) zc_X6 (t_bad0 hM 1 (by decide) 1 (by decide) hth) (by decide) (Nat.le_refl _) (Nat.le_refl _) rfl (Nat.le_of_ble_eq_true rfl) (Nat.le_of_ble_eq_true rfl) dX6_jar_25 zE.nx (zE_kk ?_)
    refine pw_if_eq 33 dX6_jar_28 (by decide) (fun c_28 => ?_) (fun c_28 => ?_)
    · have hin := (inB_le (m := sN S 0 7) (by omega)).mpr c_15
      obtain ⟨N, hN, rfl⟩ := inB_ex (by omega) hin
      have hsp : sp_jar S (nI N) = _ := (spNeed_t hin).trans (by rw [nI_clamp (show N < 2 ^ 31 by omega)])
      refine pw_aload_n dX6_jar_33 0 rfl rfl ?_
      refine pw_iload_n dX6_jar_34 1 rfl rfl ?_
      refine pw_callV1 zmM_X6_starts rfl (lw_V q2192 q2194 qs63 q150 q2195) rfl (ts_this hM) zc_X6 (t_starts hM (show N ≤ 600 by omega) (fun k hk => ⟨hT0.fed (by omega), hW.byte (by omega)⟩)) (by decide) (Nat.le_refl _) (Nat.le_refl _) rfl (Nat.le_of_ble_eq_true rfl) (Nat.le_of_ble_eq_true rfl) dX6_jar_35 (by intros; rintro ⟨h, _⟩; cases h) (fun v1 g1 n1 h1 => ?_)
      obtain ⟨h1, rfl, hR1, hc1, ht1, hf1⟩ := h1; cases h1
      refine pw_aload_n dX6_jar_38 0 rfl rfl ?_
      refine pw_callV0 zmM_X6_tellsNothing rfl (lw_V q1975 q1977 qs60 q150 q1978) rfl (ts_this hM) zc_X6 (t_tellsNothing hM) (by decide) (Nat.le_refl _) (Nat.le_refl _) rfl (Nat.le_of_ble_eq_true rfl) (Nat.le_of_ble_eq_true rfl) dX6_jar_39 (by intros; rintro ⟨h, _⟩; cases h) (fun v2 g2 n2 h2 => ?_)
      obtain ⟨h2, rfl, hJ2, hf2⟩ := h2; cases h2
      have hfa : zFr rdF jA n0 n1 := hf1.mono (fun _ _ z => Or.inl z) (fun _ z => z.elim)
      have hfb : zFr (fun a k => a = aT ∧ k = tf_clauses) jA n1 n2 := hf2.mono (fun _ _ z => z.elim) (fun a z => z ▸ jA_t)
      refine hlp N n0 (by omega) hT0 hth hf0 hsp (N + 1) j0 _ n2 rfl (pJar_pok _ _) (skp_skp _ _ _) j0_ok ⟨hJ2, ((hf2.1 aT tf_clauses (fun z => z)).1).trans hc1, fun k hk => ?_, fun k hk => absurd hk (Nat.not_lt_zero _)⟩ (hR1.j hfb) (((hf2.1 aT tf_tape (fun z => z)).1).trans ht1) (hfa.tr (hfb.mono (fun a k z => Or.inl (Or.inl (Or.inr z))) (fun _ z => z)))
      rcases hk with hk | ⟨h1, h2⟩
      · exact absurd hk (Nat.not_lt_zero _)
      · exact absurd (show k < 12 from h2) (by omega)
    · exact absurd rfl c_28
  · refine pw_iconst (v := 1) dX6_jar_18 (by decide) ?_
    refine pw_goto 23 dX6_jar_19 (by decide) ?_
    refine pw_iconst (v := 1) dX6_jar_23 (by decide) ?_
    refine pw_iconst (v := 1) dX6_jar_24 (by decide) ?_
    refine pw_callV3 zmM_X6_bad rfl (lw_V q2188 q2190 qs62 q150 q2191) rfl (ts_this hM) zc_X6 (t_bad1 hM 1 (by decide) 1 (by decide) hth) (by decide) (Nat.le_refl _) (Nat.le_refl _) rfl (Nat.le_of_ble_eq_true rfl) (Nat.le_of_ble_eq_true rfl) dX6_jar_25 zE.nx (zE_kk ?_)
    refine pw_if_eq 33 dX6_jar_28 (by decide) (fun c_28 => ?_) (fun c_28 => ?_)
    · exact absurd c_28 (by decide)
    · refine pw_iconst (v := 0) dX6_jar_31 (by decide) ?_
      refine pw_iret rfl dX6_jar_32 ?_
      exact tQ_eq (spNeed_f (fun h => c_15 ((inB_le (by omega)).mp h))) (t_qbad hT0 hW hf0 1 1 (by decide) _)

/-! ===== the reference: a question is read ===== -/
/-- a question: a sentence, and nothing behind it -/
def pQu (b : Nat → Nat) (N a : Nat) : zPR Int64 := pB (pAny b N a (skp b N 0)) (fun v p1 => if skp b N p1 < N then .inl (1, skp b N p1) else .inr (v, skp b N p1))
theorem inB_cut {x : Int32} {m : Nat} (hm : m + 1 < 2147483648) : (inB x (m + 1) && decide (x ≤ 200)) = true ↔ (0 ≤ x ∧ x ≤ nI m) ∧ x ≤ 200 := by
  rw [Bool.and_eq_true, inB_le hm, decide_eq_true_eq]
def sp_question (S : zS) (x : Int32) : Int32 × Value × zS := spNeed S (inB x (sN S 0 7 + 1) && decide (x ≤ 200)) 1 1 (.int 0) (match pQu (sN S 3) x.toNatClampNeg (sN S 0 0) with
  | .inl e => (0, .int (nI e.1 - 10), sMisc S 0 (nI e.2) (sL S 3 0))
  | .inr q => (0, .int (nI (lc q.1)), sMisc S 0 (-1) q.1))
theorem t_question {g : zg_G} {n : zg_N} {S : zS} (hM : TSh g) (hT : TW n S) (hW : WF S) (x : Int32) : PW zm_X6_question 30 (tQ g n (sp_question S x)) 0 0 0 [(0, .ref aT), (1, .int x)] [] g n := by
  have h600 := hW.taped
  have hat := hW.atoms
  refine pw_aload_n dX6_question_0 0 rfl rfl ?_
  refine pw_iconst (v := 0) dX6_question_1 (by decide) ?_
  refine pw_puti 0 zc_X6 (ts_this hM) (by decide) (by decide) q1986 rfl (Or.inl rfl) rfl rfl dX6_question_2 ?_
  obtain ⟨hT0, hth, hf0⟩ := t_start hT hW; generalize zpfi n aT 0 0 = n0 at hT0 hth hf0 ⊢
  refine pw_aload_n dX6_question_5 0 rfl rfl ?_
  refine pw_iload_n dX6_question_6 1 rfl rfl ?_
  refine pw_iconst (v := 0) dX6_question_7 (by decide) ?_
  refine pw_aload_n dX6_question_8 0 rfl rfl ?_
  refine pw_geti 1 zc_X6 (ts_this hM) (by decide) q1987 (Or.inl rfl) dX6_question_9 ?_
  rw [hT0.tape]
  refine pw_callS3 zmM_X6_in rfl (lw_S q2185 q2186 q150 q2187) (t_in _ _ _ _ _) (by decide) (Nat.le_refl _) (Nat.le_refl _) rfl (Nat.le_of_ble_eq_true rfl) (Nat.le_of_ble_eq_true rfl) dX6_question_12 zE.nx (zE_kk ?_)
  refine pw_if_eq_B 25 dX6_question_15 (by decide) (fun c_15 => ?_) (fun c_15 => ?_)
  · refine pw_iconst (v := 1) dX6_question_25 (by decide) ?_
    refine pw_goto 30 dX6_question_26 (by decide) ?_
    refine pw_iconst (v := 1) dX6_question_30 (by decide) ?_
    refine pw_iconst (v := 1) dX6_question_31 (by decide) ?_
    refine pw_callV3 zmM_X6_bad rfl (lw_V q2188 q2190 qs62 q150 q2191) rfl (ts_this hM) zc_X6 (t_bad1 hM 1 (by decide) 1 (by decide) hth) (by decide) (Nat.le_refl _) (Nat.le_refl _) rfl (Nat.le_of_ble_eq_true rfl) (Nat.le_of_ble_eq_true rfl) dX6_question_32 zE.nx (zE_kk ?_)
    refine pw_if_eq 40 dX6_question_35 (by decide) (fun c_35 => ?_) (fun c_35 => ?_)
    · exact absurd c_35 (by decide)
    · refine pw_iconst (v := 0) dX6_question_38 (by decide) ?_
      refine pw_iret rfl dX6_question_39 ?_
      exact tQ_eq (spNeed_f (fun h => c_15 ((inB_cut (by omega)).mp h).1)) (t_qbad hT0 hW hf0 1 1 (by decide) _)
  · refine pw_iload_n dX6_question_18 1 rfl rfl ?_
    refine pw_sipush (v := 200) dX6_question_19 (by decide) ?_
    refine pw_icmp_le 29 dX6_question_22 (by decide) (fun c_22 => ?_) (fun c_22 => ?_)
    · refine pw_iconst (v := 0) dX6_question_29 (by decide) ?_
      refine pw_iconst (v := 1) dX6_question_30 (by decide) ?_
      refine pw_iconst (v := 1) dX6_question_31 (by decide) ?_
      refine pw_callV3 zmM_X6_bad rfl (lw_V q2188 q2190 qs62 q150 q2191) rfl (ts_this hM) zc_X6 (t_bad0 hM 1 (by decide) 1 (by decide) hth) (by decide) (Nat.le_refl _) (Nat.le_refl _) rfl (Nat.le_of_ble_eq_true rfl) (Nat.le_of_ble_eq_true rfl) dX6_question_32 zE.nx (zE_kk ?_)
      refine pw_if_eq 40 dX6_question_35 (by decide) (fun c_35 => ?_) (fun c_35 => ?_)
      · have hin := (inB_cut (m := sN S 0 7) (by omega)).mpr ⟨c_15, c_22⟩
        obtain ⟨N, hN, rfl⟩ := inB_ex (x := x) (by omega) ((Bool.and_eq_true _ _).mp hin).1
        rw [show sp_question S (nI N) = _ from (spNeed_t hin).trans (by rw [nI_clamp (show N < 2 ^ 31 by omega)])]
        refine pw_aload_n dX6_question_40 0 rfl rfl ?_
        refine pw_iload_n dX6_question_41 1 rfl rfl ?_
        refine pw_callV1 zmM_X6_starts rfl (lw_V q2192 q2194 qs63 q150 q2195) rfl (ts_this hM) zc_X6 (t_starts hM (show N ≤ 600 by omega) (fun k hk => ⟨hT0.fed (by omega), hW.byte (by omega)⟩)) (by decide) (Nat.le_refl _) (Nat.le_refl _) rfl (Nat.le_of_ble_eq_true rfl) (Nat.le_of_ble_eq_true rfl) dX6_question_42 (by intros; rintro ⟨h, _⟩; cases h) (fun v1 g1 n1 h1 => ?_)
        obtain ⟨h1, rfl, hR1, hc1, ht1, hf1⟩ := h1; cases h1
        have hfa : zFr rdF jA n0 n1 := hf1.mono (fun _ _ z => Or.inl z) (fun _ z => z.elim)
        refine pw_aload_n dX6_question_45 0 rfl rfl ?_
        refine pw_getr 11 zc_X6 (ts_this hM) (by decide) q1997 (Or.inr ⟨_, rfl⟩) (tr_readTold hM) dX6_question_46 ?_
        refine pw_iconst (v := 0) dX6_question_49 (by decide) ?_
        refine pw_aload_n dX6_question_50 0 rfl rfl ?_
        refine pw_getr 12 zc_X6 (ts_this hM) (by decide) q1998 (Or.inr ⟨_, rfl⟩) (tr_told hM) dX6_question_51 ?_
        refine pw_iconst (v := 0) dX6_question_54 (by decide) ?_
        refine pw_iald 0 rfl (ts_told hM) (by decide) (by decide) dX6_question_55 ?_
        rw [show zai n1 at_told 0 = nI (sN S 0 0) from ((hf1.2 at_told (fun z => z) 0).1).trans (hT0.told (by decide))]
        refine pw_iast 0 rfl (ts_readTold hM) (by decide) (by decide) (by decide) dX6_question_56 ?_
        have hR2 := hR1.j (n' := zpai n1 at_readTold 0 (nI (sN S 0 0))) (zFr.rf.pai jA_t)
        have hra2 : TRa (zpai n1 at_readTold 0 (nI (sN S 0 0))) (sN S 0 0) := rfl
        have hf2 := hfa.pai (k := 0) (v := nI (sN S 0 0)) jA_t
        have ht2 : zfi (zpai n1 at_readTold 0 (nI (sN S 0 0))) aT tf_tape = 0 := ht1
        generalize zpai n1 at_readTold 0 (nI (sN S 0 0)) = n2 at hR2 hra2 hf2 ht2 ⊢
        refine pw_aload_n dX6_question_57 0 rfl rfl ?_
        refine pw_callV0 zmM_X6_anyOf rfl (lw_V q2246 q2248 qs74 q150 q2249) rfl (ts_this hM) zc_X6 (t_any hM hat.1 hat.2 hR2 hra2) (by decide) (Nat.le_refl _) (Nat.le_refl _) rfl (Nat.le_of_ble_eq_true rfl) (Nat.le_of_ble_eq_true rfl) dX6_question_58 rR.nx (fun v3 g3 n3 h3 => ?_)
        obtain ⟨rfl, hf3, hr⟩ := h3
        have hf4 := hf2.tr (jrd (rjF hf3))
        have ht4 : zfi n3 aT tf_tape = 0 := ((hf3.1 aT tf_tape (fun z => by rcases z.2 with z | z | z | z <;> exact absurd z (by decide))).1).trans ht2
        unfold pQu
        cases hrr : pAny (sN S 3) N (sN S 0 0) (skp (sN S 3) N 0) with
        | inl e =>
          rw [hrr] at hr
          obtain ⟨⟨y, hy⟩, hF⟩ := hr
          cases hy
          obtain ⟨q, hq, hq6⟩ := hF.2.2.2.2
          refine pw_lstore_n (ls' := [(2, _), (0, _), (1, _)]) dX6_question_61 rfl (by decide) rfl ?_
          refine pw_ls [1, 2, 0] (ls' := [(0, _), (1, _), (2, _)]) rfl ?_
          refine pw_aload_n dX6_question_62 0 rfl rfl ?_
          refine pw_callV0 zmM_X6_blanks rfl (lw_V q2196 q2198 qs64 q150 q2199) rfl (ts_this hM) zc_X6 (t_blanksF hM _ q n3 (Nat.le_refl _) hq6 (hR2.1.keep hf3) hq) (by decide) (Nat.le_refl _) (Nat.le_refl _) rfl (Nat.le_of_ble_eq_true rfl) (Nat.le_of_ble_eq_true rfl) dX6_question_63 (by intros; rintro ⟨h, _⟩; cases h) (fun v5 g5 n5 h5 => ?_)
          obtain ⟨h5, rfl, hat5, hf5⟩ := h5; cases h5
          have hF5 : TFl n5 e := ⟨((hf5.1 aT tf_fault (fun z => absurd z.2 (by decide))).1).trans hF.1, ((hf5.1 aT tf_faultAt (fun z => absurd z.2 (by decide))).1).trans hF.2.1, hF.2.2.1, hF.2.2.2.1, hat5⟩
          have hf6 : zFr rdF jA n0 n5 := hf4.tr (hf5.mono (fun a k z => Or.inl (Or.inl (Or.inl ⟨z.1, Or.inl z.2⟩))) (fun _ z => z.elim))
          have ht6 : zfi n5 aT tf_tape = 0 := ((hf5.1 aT tf_tape (fun z => absurd z.2 (by decide))).1).trans ht4
          refine pw_aload_n dX6_question_66 0 rfl rfl ?_
          refine pw_geti 5 zc_X6 (ts_this hM) (by decide) q1991 (Or.inl rfl) dX6_question_67 ?_
          refine pw_if_ne 93 dX6_question_70 (by decide) (fun c_70 => ?_) (fun c_70 => ?_)
          · refine pw_aload_n dX6_question_93 0 rfl rfl ?_
            refine pw_aload_n dX6_question_94 0 rfl rfl ?_
            refine pw_geti 6 zc_X6 (ts_this hM) (by decide) q1992 (Or.inl rfl) dX6_question_95 ?_
            refine pw_puti 3 zc_X6 (ts_this hM) (by decide) (by decide) q1989 rfl (Or.inl rfl) rfl rfl dX6_question_98 ?_
            refine pw_aload_n dX6_question_101 0 rfl rfl ?_
            refine pw_geti 5 zc_X6 (ts_this hM) (by decide) q1991 (Or.inl rfl) dX6_question_102 ?_
            refine pw_if_eq 116 dX6_question_105 (by decide) (fun c_105 => ?_) (fun c_105 => ?_)
            · exact absurd c_105 hF5.ne
            · refine pw_aload_n dX6_question_108 0 rfl rfl ?_
              refine pw_geti 5 zc_X6 (ts_this hM) (by decide) q1991 (Or.inl rfl) dX6_question_109 ?_
              rw [show zfi (zpfi n5 aT tf_place (zfi n5 aT tf_faultAt)) aT tf_fault = nI e.1 from hF5.1]
              refine pw_bipush (v := 10) dX6_question_112 (by decide) ?_
              refine pw_isub dX6_question_114 ?_
              refine pw_iret rfl dX6_question_115 ?_
              exact t_failed hT0 hW hth hf0 hF5 ht6 hf6
          · exact absurd c_70 hF5.ne
        | inr z =>
          rw [hrr] at hr
          obtain ⟨hy, hR3⟩ := hr
          cases hy
          refine pw_lstore_n (ls' := [(2, _), (0, _), (1, _)]) dX6_question_61 rfl (by decide) rfl ?_
          refine pw_ls [1, 2, 0] (ls' := [(0, _), (1, _), (2, _)]) rfl ?_
          refine pw_aload_n dX6_question_62 0 rfl rfl ?_
          refine pw_callV0 zmM_X6_blanks rfl (lw_V q2196 q2198 qs64 q150 q2199) rfl (ts_this hM) zc_X6 (t_blk hM hR3) (by decide) (Nat.le_refl _) (Nat.le_refl _) rfl (Nat.le_of_ble_eq_true rfl) (Nat.le_of_ble_eq_true rfl) dX6_question_63 (by intros; rintro ⟨h, _⟩; cases h) (fun v5 g5 n5 h5 => ?_)
          obtain ⟨h5, rfl, hR5, hf5⟩ := h5; cases h5
          have hf6 : zFr rdF jA n0 n5 := hf4.tr (jrd (rjF hf5))
          have ht6 : zfi n5 aT tf_tape = 0 := ((hf5.1 aT tf_tape (fun z => by rcases z.2 with z | z | z | z <;> exact absurd z (by decide))).1).trans ht4
          have hqN := hR5.2.2.2.2.1
          refine pw_aload_n dX6_question_66 0 rfl rfl ?_
          refine pw_geti 5 zc_X6 (ts_this hM) (by decide) q1991 (Or.inl rfl) dX6_question_67 ?_
          refine pw_if_ne 93 dX6_question_70 (by decide) (fun c_70 => ?_) (fun c_70 => ?_)
          · exact absurd hR5.2.1 c_70
          · refine pw_aload_n dX6_question_73 0 rfl rfl ?_
            refine pw_geti 4 zc_X6 (ts_this hM) (by decide) q1990 (Or.inl rfl) dX6_question_74 ?_
            rw [hR5.2.2.1]
            refine pw_aload_n dX6_question_77 0 rfl rfl ?_
            refine pw_geti 2 zc_X6 (ts_this hM) (by decide) q1988 (Or.inl rfl) dX6_question_78 ?_
            rw [hR5.1.1]
            refine pw_icmp_ge_N 93 dX6_question_81 (by decide) (by omega) (by omega) (fun c_81 => ?_) (fun c_81 => ?_)
            · rw [pB_r, if_neg (by omega)]
              refine pw_aload_n dX6_question_93 0 rfl rfl ?_
              refine pw_aload_n dX6_question_94 0 rfl rfl ?_
              refine pw_geti 6 zc_X6 (ts_this hM) (by decide) q1992 (Or.inl rfl) dX6_question_95 ?_
              rw [hR5.2.2.2.2.2]
              refine pw_puti 3 zc_X6 (ts_this hM) (by decide) (by decide) q1989 rfl (Or.inl rfl) rfl rfl dX6_question_98 ?_
              refine pw_aload_n dX6_question_101 0 rfl rfl ?_
              refine pw_geti 5 zc_X6 (ts_this hM) (by decide) q1991 (Or.inl rfl) dX6_question_102 ?_
              refine pw_if_eq 116 dX6_question_105 (by decide) (fun c_105 => ?_) (fun c_105 => ?_)
              · refine pw_aload_n dX6_question_116 0 rfl rfl ?_
                refine pw_lload_n dX6_question_117 2 rfl rfl ?_
                refine pw_putl 20 zc_X6 (ts_this hM) (by decide) (by decide) q2006 rfl rfl dX6_question_118 ?_
                refine pw_lload_n dX6_question_121 2 rfl rfl ?_
                refine pw_callS1 zmM_X6_ones rfl (lw_S q2277 q2278 q150 q2279) (t_ones _ _ _) (by decide) (Nat.le_refl _) (Nat.le_refl _) rfl (Nat.le_of_ble_eq_true rfl) (Nat.le_of_ble_eq_true rfl) dX6_question_122 zE.nx (zE_kk ?_)
                refine pw_iret rfl dX6_question_125 ?_
                have hf7 := hf6.pfi (v := -1) (show rdF aT tf_place from Or.inr ⟨rfl, rfl⟩)
                have hf8 := (hf7.mono rdF_mx (fun _ z => z)).pfl (v := z.1) (show mxF aT tf_question from Or.inr ⟨rfl, Or.inr (Or.inr rfl)⟩)
                have hf9 := (hf7.mono rd_X jA_X).pfl (v := z.1) (show tXF aT tf_question from rfl)
                refine ⟨rfl, rfl, hT0.misc hW 0 _ _ (hf8.mono (fun _ _ z => z) jA_tA) ht6 (Nat.zero_le _) rfl rfl, ((hf7.1 aT tf_thrown (rdF_no (Or.inl rfl))).1).trans hth, hf0.tr hf9⟩
              · exact absurd hR5.2.1 c_105
            · refine pw_aload_n dX6_question_84 0 rfl rfl ?_
              refine pw_iconst (v := 1) dX6_question_85 (by decide) ?_
              refine pw_aload_n dX6_question_86 0 rfl rfl ?_
              refine pw_geti 4 zc_X6 (ts_this hM) (by decide) q1990 (Or.inl rfl) dX6_question_87 ?_
              rw [hR5.2.2.1]
              refine pw_callV2 zmM_X6_wrong rfl (lw_V q2226 q2228 qs70 q150 q2229) rfl (ts_this hM) zc_X6 (t_wrong hM _ _ hR5.2.1) (by decide) (Nat.le_refl _) (Nat.le_refl _) rfl (Nat.le_of_ble_eq_true rfl) (Nat.le_of_ble_eq_true rfl) dX6_question_90 zE.nx (zE_kk ?_)
              have hw := hR5.wr (k := 1) (q := skp (sN S 3) N z.2) (by decide) (by decide)
              rw [pB_r, if_pos c_81]
              have hf7 := hf6.tr (jrd (rjF hw.2))
              have ht7 : zfi (zpfi (zpfi n5 aT tf_fault (nI 1)) aT tf_faultAt (nI (skp (sN S 3) N z.2))) aT tf_tape = 0 := ht6
              refine pw_aload_n dX6_question_93 0 rfl rfl ?_
              refine pw_aload_n dX6_question_94 0 rfl rfl ?_
              refine pw_geti 6 zc_X6 (ts_this hM) (by decide) q1992 (Or.inl rfl) dX6_question_95 ?_
              refine pw_puti 3 zc_X6 (ts_this hM) (by decide) (by decide) q1989 rfl (Or.inl rfl) rfl rfl dX6_question_98 ?_
              refine pw_aload_n dX6_question_101 0 rfl rfl ?_
              refine pw_geti 5 zc_X6 (ts_this hM) (by decide) q1991 (Or.inl rfl) dX6_question_102 ?_
              refine pw_if_eq 116 dX6_question_105 (by decide) (fun c_105 => ?_) (fun c_105 => ?_)
              · exact absurd c_105 hw.1.ne
              · refine pw_aload_n dX6_question_108 0 rfl rfl ?_
                refine pw_geti 5 zc_X6 (ts_this hM) (by decide) q1991 (Or.inl rfl) dX6_question_109 ?_
                refine pw_bipush (v := 10) dX6_question_112 (by decide) ?_
                refine pw_isub dX6_question_114 ?_
                refine pw_iret rfl dX6_question_115 ?_
                exact t_failed hT0 hW hth hf0 hw.1 ht7 hf7
      · exact absurd rfl c_35
    · refine pw_iconst (v := 1) dX6_question_25 (by decide) ?_
      refine pw_goto 30 dX6_question_26 (by decide) ?_
      refine pw_iconst (v := 1) dX6_question_30 (by decide) ?_
      refine pw_iconst (v := 1) dX6_question_31 (by decide) ?_
      refine pw_callV3 zmM_X6_bad rfl (lw_V q2188 q2190 qs62 q150 q2191) rfl (ts_this hM) zc_X6 (t_bad1 hM 1 (by decide) 1 (by decide) hth) (by decide) (Nat.le_refl _) (Nat.le_refl _) rfl (Nat.le_of_ble_eq_true rfl) (Nat.le_of_ble_eq_true rfl) dX6_question_32 zE.nx (zE_kk ?_)
      refine pw_if_eq 40 dX6_question_35 (by decide) (fun c_35 => ?_) (fun c_35 => ?_)
      · exact absurd c_35 (by decide)
      · refine pw_iconst (v := 0) dX6_question_38 (by decide) ?_
        refine pw_iret rfl dX6_question_39 ?_
        exact tQ_eq (spNeed_f (fun h => absurd ((inB_cut (by omega)).mp h).2 c_22)) (t_qbad hT0 hW hf0 1 1 (by decide) _)

/-! ===== TEXTS: tongues as they are read ===== -/
/-- what a ground or a term comes to (a ground: 0 or 1) -/
abbrev zW : Type := (Nat → Int32) → Int32
def vB (h : Nat) (u v : zW) : zW := fun fc => tBy h (u fc) (v fc)
def vN (u : zW) : zW := fun fc => 1 - u fc
def vK (k : Nat) : zW := fun _ => nI k
def vF (k : Nat) : zW := fun fc => fc k
def pFact (L : List Nat) : Nat :=
  if L = [97, 103, 101] then 0 else if L = [104, 117, 114, 116, 115] then 1 else if L = [111, 108, 100, 115] then 2 else if L = [110, 101, 119, 115] then 3
  else if L = [111, 108, 100, 110] then 4 else if L = [110, 101, 119, 110] then 5 else if L = [119, 101, 101, 107] then 6 else if L = [104, 101, 108, 100] then 7
  else if L = [108, 101, 102, 116] then 8 else if L = [115, 104, 97, 114, 101, 100] then 9 else 10
theorem pFact_10 {L : List Nat} (h : L = []) : pFact L = 10 := by subst h; decide
theorem pFact_le (L : List Nat) : pFact L ≤ 10 := by
  unfold pFact
  repeat' split
  all_goals decide
/-- how two are compared; 0: not at all -/
def pHow (c : Nat) : Nat := if c = 60 then 5 else if c = 62 then 6 else if c = 61 then 7 else 0
def pTo (b : Nat → Nat) (N : Nat) (R : Nat → Nat → zW → Nat → zPR zW) (o q : Nat) : zPR zW :=
  if tWd b N q = wNot then (if o = 6 then .inl (3, q) else pB (R 4 (o + 1) (vK 0) (q + 3)) (fun v p1 => .inr (vN v, p1)))
  else if tb b N q = 91 then (if o = 6 then .inl (3, q) else pB (R 0 (o + 1) (vK 0) (q + 1)) (fun v p1 => pNeed b N 93 p1 v))
  else pB (R 5 o (vK 0) q) (fun u p1 => if pHow (tb b N (skp b N p1)) = 0 then .inl (1, skp b N p1) else pB (R 5 o (vK 0) (skp b N p1 + 1)) (fun v p2 => .inr (vB (pHow (tb b N (skp b N p1))) u v, p2)))
def pTu (b : Nat → Nat) (N : Nat) (R : Nat → Nat → zW → Nat → zPR zW) (o q : Nat) : zPR zW :=
  if tb b N q = 40 then (if o = 6 then .inl (3, q) else pB (R 5 (o + 1) (vK 0) (q + 1)) (fun v p1 => pNeed b N 41 p1 v))
  else if isDg (tb b N q) then pB (pNum b N 0 999 q) (fun v p1 => .inr (vK v, p1))
  else if pFact (tWd b N q) = 10 then .inl (1, q) else .inr (vF (pFact (tWd b N q)), q + (tWd b N q).length)
/-- the tongue: 0 any, 1 more of any, 2 each, 3 more of each, 4 one, 5 a sum, 6 more of it, 7 a product, 8 more of it, 9 a value -/
def pT (b : Nat → Nat) (N : Nat) : Nat → Nat → Nat → zW → Nat → zPR zW
  | 0, _, _, _, _ => .inl (0, 0)
  | f + 1, m, o, v, p =>
    if m = 0 then pB (pT b N f 2 o (vK 0) p) (fun v p1 => pT b N f 1 o v p1)
    else if m = 1 then (if tWd b N (skp b N p) = wOr then pB (pT b N f 2 o (vK 0) (skp b N p + 2)) (fun u p1 => pT b N f 1 o (vB 10 v u) p1) else .inr (v, skp b N p))
    else if m = 2 then pB (pT b N f 4 o (vK 0) p) (fun v p1 => pT b N f 3 o v p1)
    else if m = 3 then (if tWd b N (skp b N p) = wAnd then pB (pT b N f 4 o (vK 0) (skp b N p + 3)) (fun u p1 => pT b N f 3 o (vB 9 v u) p1) else .inr (v, skp b N p))
    else if m = 4 then pTo b N (pT b N f) o (skp b N p)
    else if m = 5 then pB (pT b N f 7 o (vK 0) p) (fun v p1 => pT b N f 6 o v p1)
    else if m = 6 then (if tb b N (skp b N p) = 43 then pB (pT b N f 7 o (vK 0) (skp b N p + 1)) (fun u p1 => pT b N f 6 o (vB 2 v u) p1)
      else if tb b N (skp b N p) = 45 then pB (pT b N f 7 o (vK 0) (skp b N p + 1)) (fun u p1 => pT b N f 6 o (vB 3 v u) p1) else .inr (v, skp b N p))
    else if m = 7 then pB (pT b N f 9 o (vK 0) p) (fun v p1 => pT b N f 8 o v p1)
    else if m = 8 then (if tb b N (skp b N p) = 42 then pB (pT b N f 9 o (vK 0) (skp b N p + 1)) (fun u p1 => pT b N f 8 o (vB 4 v u) p1) else .inr (v, skp b N p))
    else pTu b N (pT b N f) o (skp b N p)
theorem pT_0 (b : Nat → Nat) (N f o : Nat) (v : zW) (p : Nat) : pT b N (f + 1) 0 o v p = pB (pT b N f 2 o (vK 0) p) (fun v p1 => pT b N f 1 o v p1) := rfl
theorem pT_1 (b : Nat → Nat) (N f o : Nat) (v : zW) (p : Nat) : pT b N (f + 1) 1 o v p = if tWd b N (skp b N p) = wOr then pB (pT b N f 2 o (vK 0) (skp b N p + 2)) (fun u p1 => pT b N f 1 o (vB 10 v u) p1) else .inr (v, skp b N p) := rfl
theorem pT_2 (b : Nat → Nat) (N f o : Nat) (v : zW) (p : Nat) : pT b N (f + 1) 2 o v p = pB (pT b N f 4 o (vK 0) p) (fun v p1 => pT b N f 3 o v p1) := rfl
theorem pT_3 (b : Nat → Nat) (N f o : Nat) (v : zW) (p : Nat) : pT b N (f + 1) 3 o v p = if tWd b N (skp b N p) = wAnd then pB (pT b N f 4 o (vK 0) (skp b N p + 3)) (fun u p1 => pT b N f 3 o (vB 9 v u) p1) else .inr (v, skp b N p) := rfl
theorem pT_4 (b : Nat → Nat) (N f o : Nat) (v : zW) (p : Nat) : pT b N (f + 1) 4 o v p = pTo b N (pT b N f) o (skp b N p) := rfl
theorem pT_5 (b : Nat → Nat) (N f o : Nat) (v : zW) (p : Nat) : pT b N (f + 1) 5 o v p = pB (pT b N f 7 o (vK 0) p) (fun v p1 => pT b N f 6 o v p1) := rfl
theorem pT_6 (b : Nat → Nat) (N f o : Nat) (v : zW) (p : Nat) : pT b N (f + 1) 6 o v p = if tb b N (skp b N p) = 43 then pB (pT b N f 7 o (vK 0) (skp b N p + 1)) (fun u p1 => pT b N f 6 o (vB 2 v u) p1)
      else if tb b N (skp b N p) = 45 then pB (pT b N f 7 o (vK 0) (skp b N p + 1)) (fun u p1 => pT b N f 6 o (vB 3 v u) p1) else .inr (v, skp b N p) := rfl
theorem pT_7 (b : Nat → Nat) (N f o : Nat) (v : zW) (p : Nat) : pT b N (f + 1) 7 o v p = pB (pT b N f 9 o (vK 0) p) (fun v p1 => pT b N f 8 o v p1) := rfl
theorem pT_8 (b : Nat → Nat) (N f o : Nat) (v : zW) (p : Nat) : pT b N (f + 1) 8 o v p = if tb b N (skp b N p) = 42 then pB (pT b N f 9 o (vK 0) (skp b N p + 1)) (fun u p1 => pT b N f 8 o (vB 4 v u) p1) else .inr (v, skp b N p) := rfl
theorem pT_9 (b : Nat → Nat) (N f o : Nat) (v : zW) (p : Nat) : pT b N (f + 1) 9 o v p = pTu b N (pT b N f) o (skp b N p) := rfl
/-- how much a mode eats at least -/
def pEat (m : Nat) : Nat := if m = 0 ∨ m = 2 ∨ m = 4 ∨ m = 5 ∨ m = 7 ∨ 9 ≤ m then 1 else 0
theorem pFar_0 {α : Type} {N p p' s s' : Nat} {v : α} (h1 : p' + s' ≤ p) (h2 : p ≤ N) : pFar N p' s' (.inr (v, p)) := ⟨h1, h2⟩
theorem pHow_lt {c : Nat} (h : ¬ pHow c = 0) : c < 256 ∧ (pHow c = 5 ∨ pHow c = 6 ∨ pHow c = 7) := by
  unfold pHow at h ⊢
  split
  · exact ⟨by omega, Or.inl rfl⟩
  · split
    · exact ⟨by omega, Or.inr (Or.inl rfl)⟩
    · split
      · exact ⟨by omega, Or.inr (Or.inr rfl)⟩
      · next h1 h2 h3 => rw [if_neg h1, if_neg h2, if_neg h3] at h; exact absurd rfl h
theorem pT_far (b : Nat → Nat) (N : Nat) : ∀ f m o v p, p ≤ N → pFar N p (pEat m) (pT b N f m o v p)
  | 0, m, o, v, p, _ => trivial
  | f + 1, m, o, v, p, hp => by
    have ih := fun m o v p hp => pT_far b N f m o v p hp
    have hq := skp_le (b := b) hp
    have hg := skp_ge b N p
    have lt1 : ∀ {c q : Nat}, c < 256 → tb b N q = c → q + 1 ≤ N := fun {c q} hc h => tb_lt (b := b) (by omega)
    have two : ∀ {m1 m2 o1 v1 q} {k : zW → zW}, q ≤ N → pEat m1 = 1 → pFar N q 1 (pB (pT b N f m1 o1 v1 q) (fun v p1 => pT b N f m2 o (k v) p1)) := fun {m1 m2 o1 v1 q k} h e =>
      pFar_B (s := 1) (t := 0) (by have := ih m1 o1 v1 q h; rw [e] at this; exact this) (fun v p1 _ _ h => (ih m2 o (k v) p1 h).mono (by omega)) (by decide)
    rw [pT]
    by_cases m0 : m = 0
    · subst m0
      rw [if_pos rfl]
      exact two (k := id) hp rfl
    · rw [if_neg m0]
      by_cases m1 : m = 1
      · subst m1
        rw [if_pos rfl]
        split
        · next hw =>
          have h2 := tWd_far hq hw
          exact (two (k := vB 10 v) h2 rfl).mono (by show p + 0 ≤ skp b N p + 2 + 1; omega)
        · exact pFar_0 (s := 0) hg hq
      · rw [if_neg m1]
        by_cases m2 : m = 2
        · subst m2
          rw [if_pos rfl]
          exact two (k := id) hp rfl
        · rw [if_neg m2]
          by_cases m3 : m = 3
          · subst m3
            rw [if_pos rfl]
            split
            · next hw =>
              have h2 := tWd_far hq hw
              exact (two (k := vB 9 v) h2 rfl).mono (by show p + 0 ≤ skp b N p + 3 + 1; omega)
            · exact pFar_0 (s := 0) hg hq
          · rw [if_neg m3]
            by_cases m4 : m = 4
            · subst m4
              rw [if_pos rfl]
              refine pFar.mono (p := skp b N p) (s := 1) ?_ (by show p + 1 ≤ _; omega)
              generalize skp b N p = q at hq
              unfold pTo
              split
              · next hw =>
                have h2 := tWd_far hq hw
                split
                · trivial
                · exact (pFar_B (p := q + 3) (s := 1) (t := 0) (u := 1) (ih 4 (o + 1) _ _ h2) (fun v p1 _ _ h => pFar_v h _) (by decide)).mono (by omega)
              · split
                · next h =>
                  split
                  · trivial
                  · exact (pFar_B (p := q + 1) (s := 1) (t := 1) (u := 1) (ih 0 (o + 1) _ _ (lt1 (by decide) h)) (fun v p1 _ _ _ => pNeed_far b N 93 p1 (by decide) v) (by decide)).mono (by omega)
                · refine pFar_B (p := q) (s := 1) (t := 0) (u := 1) (ih 5 o _ _ hq) (fun u p1 _ _ h => ?_) (by decide)
                  have := skp_ge b N p1
                  split
                  · trivial
                  · next hn =>
                    have h3 := lt1 (pHow_lt hn).1 (q := skp b N p1) rfl
                    exact (pFar_B (p := skp b N p1 + 1) (s := 1) (t := 0) (u := 0) (ih 5 o _ _ h3) (fun v p2 _ _ h => pFar_v h _) (by decide)).mono (by omega)
            · rw [if_neg m4]
              by_cases m5 : m = 5
              · subst m5
                rw [if_pos rfl]
                exact two (k := id) hp rfl
              · rw [if_neg m5]
                by_cases m6 : m = 6
                · subst m6
                  rw [if_pos rfl]
                  split
                  · next h => exact (two (k := vB 2 v) (lt1 (by decide) h) rfl).mono (by show p + 0 ≤ skp b N p + 1 + 1; omega)
                  · split
                    · next h => exact (two (k := vB 3 v) (lt1 (by decide) h) rfl).mono (by show p + 0 ≤ skp b N p + 1 + 1; omega)
                    · exact pFar_0 (s := 0) hg hq
                · rw [if_neg m6]
                  by_cases m7 : m = 7
                  · subst m7
                    rw [if_pos rfl]
                    exact two (k := id) hp rfl
                  · rw [if_neg m7]
                    by_cases m8 : m = 8
                    · subst m8
                      rw [if_pos rfl]
                      split
                      · next h => exact (two (k := vB 4 v) (lt1 (by decide) h) rfl).mono (by show p + 0 ≤ skp b N p + 1 + 1; omega)
                      · exact pFar_0 (s := 0) hg hq
                    · rw [if_neg m8, show pEat m = 1 from if_pos (by omega)]
                      refine pFar.mono (p := skp b N p) (s := 1) ?_ (by omega)
                      generalize skp b N p = q at hq
                      unfold pTu
                      split
                      · next h =>
                        split
                        · trivial
                        · exact (pFar_B (p := q + 1) (s := 1) (t := 1) (u := 1) (ih 5 (o + 1) _ _ (lt1 (by decide) h)) (fun v p1 _ _ _ => pNeed_far b N 41 p1 (by decide) v) (by decide)).mono (by omega)
                      · split
                        · next h =>
                          have hlt : q < N := tb_lt (b := b) (by unfold isDg at h; omega)
                          have hskq : skp b N q = q := skp_0 (by unfold isDg at h; omega)
                          unfold pNum
                          rw [hskq, if_neg (fun z => z h)]
                          split
                          · trivial
                          · have h3 := tNm_ge (b := b) (N := N) (v := 10 * 0 + (tb b N q - 48)) (p := q + 1) hlt
                            refine pFar_0 (s := 1) ?_ ?_
                            · rw [tNm_s h]; exact h3.1
                            · rw [tNm_s h]; exact h3.2
                        · split
                          · trivial
                          · next h10 =>
                            have hl := tWd_len (b := b) hq
                            refine pFar_0 (s := 1) ?_ hl
                            have : (tWd b N q).length ≠ 0 := fun z => h10 (pFact_10 (List.eq_nil_of_length_eq_zero z))
                            omega
def pRk (m : Nat) : Nat := if m = 0 then 5 else if m = 2 then 4 else if m = 4 then 3 else if m = 5 then 2 else if m = 7 then 1 else 0
theorem pRk_le (m : Nat) : pRk m ≤ 5 := by
  unfold pRk
  repeat' split
  all_goals decide
theorem pT_ok (b : Nat → Nat) (N : Nat) : ∀ f m o v p, p ≤ N → 6 * (N - p) + pRk m < f → pOk (pT b N f m o v p)
  | 0, m, o, v, p, _, h => absurd h (Nat.not_lt_zero _)
  | f + 1, m, o, v, p, hp, hf => by
    have ih := fun m o v p hp h => pT_ok b N f m o v p hp h
    have hq := skp_le (b := b) hp
    have hg := skp_ge b N p
    have fr : ∀ {m o v p v1 p1}, p ≤ N → pT b N f m o v p = .inr (v1, p1) → p + pEat m ≤ p1 ∧ p1 ≤ N := fun {m o v p v1 p1} hp e => by
      have := pT_far b N f m o v p hp
      rw [e] at this
      exact this
    have lt1 : ∀ {c q : Nat}, c < 256 → tb b N q = c → q + 1 ≤ N := fun {c q} hc h => tb_lt (b := b) (by omega)
    have two : ∀ {m1 m2 o1 v1 q} {k : zW → zW}, q ≤ N → pEat m1 = 1 → pRk m2 = 0 → 6 * (N - q) + pRk m1 < f → pOk (pB (pT b N f m1 o1 v1 q) (fun v p1 => pT b N f m2 o (k v) p1)) := fun {m1 m2 o1 v1 q k} h e e2 hm =>
      pOk_Bi (ih m1 o1 v1 q h hm) (fun v p1 er => ih m2 o (k v) p1 (fr h er).2 (by have := (fr h er).1; rw [e] at this; rw [e2]; omega))
    have r5 : ∀ m, pRk m ≤ 5 := pRk_le
    rw [pT]
    by_cases m0 : m = 0
    · subst m0
      rw [if_pos rfl]
      exact two (k := id) hp rfl rfl (by have : pRk 0 = 5 := rfl; have : pRk 2 = 4 := rfl; omega)
    · rw [if_neg m0]
      by_cases m1 : m = 1
      · subst m1
        rw [if_pos rfl]
        split
        · next hw =>
          have h2 := tWd_far hq hw
          replace h2 : skp b N p + 2 ≤ N := h2
          exact two (k := vB 10 v) h2 rfl rfl (by have := r5 2; omega)
        · trivial
      · rw [if_neg m1]
        by_cases m2 : m = 2
        · subst m2
          rw [if_pos rfl]
          exact two (k := id) hp rfl rfl (by have : pRk 2 = 4 := rfl; have : pRk 4 = 3 := rfl; omega)
        · rw [if_neg m2]
          by_cases m3 : m = 3
          · subst m3
            rw [if_pos rfl]
            split
            · next hw =>
              have h2 := tWd_far hq hw
              replace h2 : skp b N p + 3 ≤ N := h2
              exact two (k := vB 9 v) h2 rfl rfl (by have := r5 4; omega)
            · trivial
          · rw [if_neg m3]
            by_cases m4 : m = 4
            · subst m4
              rw [if_pos rfl]
              have hf4 : 6 * (N - skp b N p) + 3 < f + 1 := by have : pRk 4 = 3 := rfl; omega
              generalize skp b N p = q at hq hf4
              unfold pTo
              split
              · next hw =>
                have h2 := tWd_far hq hw
                replace h2 : q + 3 ≤ N := h2
                split
                · exact (by decide : (3 : Nat) ≠ 0)
                · exact pOk_Bi (ih 4 (o + 1) _ _ h2 (by have := r5 4; omega)) (fun v p1 _ => trivial)
              · split
                · next h =>
                  have h2 := lt1 (by decide) h
                  split
                  · exact (by decide : (3 : Nat) ≠ 0)
                  · exact pOk_Bi (ih 0 (o + 1) _ _ h2 (by have := r5 0; omega)) (fun v p1 _ => pNeed_ok b N 93 p1 v)
                · refine pOk_Bi (ih 5 o _ _ hq (by have : pRk 5 = 2 := rfl; omega)) (fun u p1 e => ?_)
                  have h1 := (fr hq e).1
                  have := skp_ge b N p1
                  split
                  · exact Nat.one_ne_zero
                  · next hn =>
                    have h3 := lt1 (pHow_lt hn).1 (q := skp b N p1) rfl
                    exact pOk_Bi (ih 5 o _ _ h3 (by have := r5 5; omega)) (fun v p2 _ => trivial)
            · rw [if_neg m4]
              by_cases m5 : m = 5
              · subst m5
                rw [if_pos rfl]
                exact two (k := id) hp rfl rfl (by have : pRk 5 = 2 := rfl; have : pRk 7 = 1 := rfl; omega)
              · rw [if_neg m5]
                by_cases m6 : m = 6
                · subst m6
                  rw [if_pos rfl]
                  split
                  · next h => exact two (k := vB 2 v) (lt1 (by decide) h) rfl rfl (by have := lt1 (by decide) h; have := r5 7; omega)
                  · split
                    · next h => exact two (k := vB 3 v) (lt1 (by decide) h) rfl rfl (by have := lt1 (by decide) h; have := r5 7; omega)
                    · trivial
                · rw [if_neg m6]
                  by_cases m7 : m = 7
                  · subst m7
                    rw [if_pos rfl]
                    exact two (k := id) hp rfl rfl (by have : pRk 7 = 1 := rfl; have : pRk 9 = 0 := rfl; omega)
                  · rw [if_neg m7]
                    by_cases m8 : m = 8
                    · subst m8
                      rw [if_pos rfl]
                      split
                      · next h => exact two (k := vB 4 v) (lt1 (by decide) h) rfl rfl (by have := lt1 (by decide) h; have := r5 9; omega)
                      · trivial
                    · rw [if_neg m8]
                      have hf9 : 6 * (N - skp b N p) < f + 1 := by omega
                      generalize skp b N p = q at hq hf9
                      unfold pTu
                      split
                      · next h =>
                        have h2 := lt1 (by decide) h
                        split
                        · exact (by decide : (3 : Nat) ≠ 0)
                        · exact pOk_Bi (ih 5 (o + 1) _ _ h2 (by have := r5 5; omega)) (fun v p1 _ => pNeed_ok b N 41 p1 v)
                      · split
                        · exact pOk_Bi (pNum_ok _ _ _ _ _) (fun v p1 _ => trivial)
                        · split
                          · exact Nat.one_ne_zero
                          · trivial
/-- grounds are so or not -/
def v01 (v : zW) : Prop := ∀ fc, v fc = 0 ∨ v fc = 1
theorem tBy_01 {h : Nat} (hh : h = 5 ∨ h = 6 ∨ h = 7 ∨ h = 10) (u v : Int32) : tBy h u v = 0 ∨ tBy h u v = 1 := by
  have z : ∀ (p : Prop) [Decidable p], zb p = 0 ∨ zb p = 1 := fun p _ => by unfold zb; split <;> simp
  unfold tBy
  rcases hh with rfl | rfl | rfl | rfl <;> simp <;> exact z _
theorem vB_9 {u v : zW} (hu : v01 u) (hv : v01 v) : v01 (vB 9 u v) := fun fc => by
  have e : vB 9 u v fc = u fc * v fc := rfl
  rw [e]
  rcases hu fc with h1 | h1 <;> rcases hv fc with h2 | h2 <;> rw [h1, h2] <;> decide
theorem pT_01 (b : Nat → Nat) (N : Nat) : ∀ f m o v p u q, m ≤ 4 → (m = 1 ∨ m = 3 → v01 v) → pT b N f m o v p = .inr (u, q) → v01 u
  | 0, m, o, v, p, u, q, _, _, h => nomatch h
  | f + 1, m, o, v, p, u, q, hm, hv, h => by
    have ih := fun m o v p u q => pT_01 b N f m o v p u q
    rw [pT] at h
    by_cases m0 : m = 0
    · rw [if_pos m0] at h
      obtain ⟨v1, p1, e1, e2⟩ := pB_inr h
      exact ih 1 o _ _ u q (by decide) (fun _ => ih 2 o _ p v1 p1 (by decide) (fun z => by omega) e1) e2
    · rw [if_neg m0] at h
      by_cases m1 : m = 1
      · rw [if_pos m1] at h
        split at h
        · obtain ⟨v1, p1, e1, e2⟩ := pB_inr h
          exact ih 1 o _ _ u q (by decide) (fun _ fc => tBy_01 (by simp) _ _) e2
        · cases h; exact hv (Or.inl m1)
      · rw [if_neg m1] at h
        by_cases m2 : m = 2
        · rw [if_pos m2] at h
          obtain ⟨v1, p1, e1, e2⟩ := pB_inr h
          exact ih 3 o _ _ u q (by decide) (fun _ => ih 4 o _ p v1 p1 (by decide) (fun z => by omega) e1) e2
        · rw [if_neg m2] at h
          by_cases m3 : m = 3
          · rw [if_pos m3] at h
            split at h
            · obtain ⟨v1, p1, e1, e2⟩ := pB_inr h
              exact ih 3 o _ _ u q (by decide) (fun _ => vB_9 (hv (Or.inr m3)) (ih 4 o _ _ v1 p1 (by decide) (fun z => by omega) e1)) e2
            · cases h; exact hv (Or.inr m3)
          · rw [if_neg m3, if_pos (by omega)] at h
            unfold pTo at h
            split at h
            · split at h
              · cases h
              · obtain ⟨v1, p1, e1, e2⟩ := pB_inr h
                cases e2
                have := ih 4 (o + 1) _ _ v1 _ (by decide) (fun z => by omega) e1
                intro fc
                show 1 - v1 fc = 0 ∨ 1 - v1 fc = 1
                rcases this fc with h1 | h1 <;> rw [h1] <;> decide
            · split at h
              · split at h
                · cases h
                · obtain ⟨v1, p1, e1, e2⟩ := pB_inr h
                  unfold pNeed at e2
                  split at e2
                  · cases e2; exact ih 0 (o + 1) _ _ _ p1 (by decide) (fun z => by omega) e1
                  · cases e2
              · obtain ⟨v1, p1, e1, e2⟩ := pB_inr h
                split at e2
                · cases e2
                · next hn =>
                  obtain ⟨v2, p2, e3, e4⟩ := pB_inr e2
                  cases e4
                  exact fun fc => tBy_01 (by rcases (pHow_lt hn).2 with z | z | z <;> rw [z] <;> simp) _ _
abbrev fuT (N : Nat) : Nat := 6 * N + 9
def pGr (b : Nat → Nat) (N p : Nat) : zPR zW := pT b N (fuT N) 0 0 (vK 0) p
theorem pGr_ok (b : Nat → Nat) (N : Nat) {p : Nat} (h : p ≤ N) : pOk (pGr b N p) := pT_ok b N _ _ _ _ _ h (by have : pRk 0 = 5 := rfl; unfold fuT; omega)
theorem pGr_far (b : Nat → Nat) (N : Nat) {p : Nat} (h : p ≤ N) : pFar N p 1 (pGr b N p) := pT_far b N (fuT N) 0 0 (vK 0) p h
theorem pGr_01 {b : Nat → Nat} {N p q : Nat} {u : zW} (h : pGr b N p = .inr (u, q)) : v01 u := pT_01 b N _ _ _ _ _ _ _ (by decide) (fun z => by omega) h
abbrev wBoth : List Nat := [98, 111, 116, 104]
abbrev wNew : List Nat := [110, 101, 119]
abbrev wOld : List Nat := [111, 108, 100]
def pWho (L : List Nat) : Nat := if L = wBoth then 0 else if L = wNew then 1 else if L = wOld then 2 else 3
/-- a row of a tongue, from its word on: who falls, on what ground -/
def pRw (b : Nat → Nat) (N : Nat) (T : List (Nat × zW)) (q : Nat) : zPR (List (Nat × zW)) :=
  if pWho (tWd b N q) = 3 then .inl (1, q) else if T.length = 10 then .inl (3, q)
  else pB (pGr b N (q + (tWd b N q).length)) (fun v p1 => pNeed b N 59 p1 (T ++ [(pWho (tWd b N q), v)]))
def pTr (b : Nat → Nat) (N : Nat) : Nat → List (Nat × zW) → Nat → zPR (List (Nat × zW))
  | 0, _, _ => .inl (0, 0)
  | m + 1, T, p => if p < N then pB (pRw b N T p) (fun T p1 => pTr b N m T (skp b N p1)) else .inr (T, p)
def pTg (b : Nat → Nat) (N : Nat) : zPR (List (Nat × zW)) := pTr b N (N + 1) [] (skp b N 0)
theorem pRw_far {b : Nat → Nat} {N : Nat} {T : List (Nat × zW)} {q : Nat} (hq : q ≤ N) : pFar N q 1 (pRw b N T q) := by
  unfold pRw
  split
  · trivial
  · split
    · trivial
    · have hl := tWd_len (b := b) hq
      exact (pFar_B (s := 1) (t := 1) (u := 1) (pGr_far b N hl) (fun J' p1 _ _ _ => pNeed_far b N 59 p1 (by decide) _) (by decide)).mono (by omega)
theorem pRw_pok {b : Nat → Nat} {N : Nat} {T : List (Nat × zW)} {q : Nat} (hq : q ≤ N) : pOk (pRw b N T q) := by
  unfold pRw
  split
  · exact Nat.one_ne_zero
  · split
    · exact (by decide : (3 : Nat) ≠ 0)
    · exact pOk_Bi (pGr_ok b N (tWd_len hq)) (fun J' p1 _ => pNeed_ok b N 59 p1 _)
theorem pTr_ok (b : Nat → Nat) (N : Nat) : ∀ m T p, p ≤ N → N - p < m → pOk (pTr b N m T p)
  | 0, _, _, _, h => absurd h (Nat.not_lt_zero _)
  | m + 1, T, p, hp, h => by
    rw [pTr]
    split
    · refine pOk_Bi (pRw_pok hp) (fun J1 p1 e => ?_)
      have := pRw_far (b := b) (T := T) hp
      rw [e] at this
      have h2 := skp_ge b N p1
      exact pTr_ok b N m J1 _ (skp_le this.2) (by have := this.1; omega)
    · trivial
theorem pTg_pok (b : Nat → Nat) (N : Nat) : pOk (pTg b N) := pTr_ok b N _ _ _ (skp_le (Nat.zero_le _)) (by omega)
/-- what a tongue may be -/
def TOk (T : List (Nat × zW)) : Prop := T.length ≤ 10 ∧ ∀ q, q ∈ T → q.1 ≤ 2 ∧ v01 q.2
theorem pWho_le (L : List Nat) : pWho L ≤ 3 := by
  unfold pWho
  repeat' split
  all_goals decide
theorem pRw_ok {b : Nat → Nat} {N : Nat} {T T' : List (Nat × zW)} {q p1 : Nat} (h : TOk T) (e : pRw b N T q = .inr (T', p1)) : TOk T' := by
  unfold pRw at e
  split at e
  · cases e
  · next h3 =>
    split at e
    · cases e
    · next h10 =>
      obtain ⟨v, p2, e1, e2⟩ := pB_inr e
      have hv := pGr_01 e1
      have hw := pWho_le (tWd b N q)
      unfold pNeed at e2
      split at e2
      · cases e2
        have := h.1
        refine ⟨by rw [List.length_append]; simp only [List.length_cons, List.length_nil]; omega, fun x hx => ?_⟩
        rcases List.mem_append.mp hx with hx | hx
        · exact h.2 x hx
        · rw [List.mem_singleton.mp hx]; exact ⟨by show pWho (tWd b N q) ≤ 2; omega, hv⟩
      · cases e2
theorem pTr_tok (b : Nat → Nat) (N : Nat) : ∀ m T p T' q, TOk T → pTr b N m T p = .inr (T', q) → TOk T'
  | 0, _, _, _, _, _, h => nomatch h
  | m + 1, T, p, T', q, hT, h => by
    rw [pTr] at h
    split at h
    · obtain ⟨J1, p1, e1, e2⟩ := pB_inr h
      exact pTr_tok b N m J1 _ T' q (pRw_ok hT e1) e2
    · cases h; exact hT
theorem pTg_tok {b : Nat → Nat} {N : Nat} {T : List (Nat × zW)} {q : Nat} (h : pTg b N = .inr (T, q)) : TOk T := pTr_tok b N (N + 1) [] (skp b N 0) T q ⟨Nat.zero_le _, (fun q hq => nomatch hq)⟩ h

/-! ===== the reference reads: codes ===== -/
def ttF (a k : Nat) : Prop := rF a k ∨ (a = aT ∧ k = tf_readCodes)
def ttA (a : Nat) : Prop := at_readCode < a ∧ a ≤ at_readCode + 220
theorem rtF {n n' : zg_N} (h : zFr rF rA n n') : zFr ttF ttA n n' := h.mono (fun _ _ z => Or.inl z) (fun _ z => z.elim)
theorem ttA_r {i : Nat} (h : i < 220) : ttA (at_readCode + 1 + i) := ⟨by show 1305 < 1305 + 1 + i; omega, by show 1305 + 1 + i ≤ 1305 + 220; omega⟩
theorem ttF_c : ttF aT tf_readCodes := Or.inr ⟨rfl, rfl⟩
theorem TX.keep3 {n n' : zg_N} {b : Nat → Nat} {N : Nat} (h : TX n b N) (hf : zFr ttF ttA n n') : TX n' b N :=
  ⟨((hf.1 aT tf_size (fun z => by rcases z with ⟨_, z | z | z | z⟩ | ⟨_, z⟩ <;> exact absurd z (by decide))).1).trans h.1, h.2.1, fun k hk => ⟨((hf.2 at_fed (fun z => by unfold ttA at z; revert z; decide) k).1).trans (h.2.2 k hk).1, (h.2.2 k hk).2⟩⟩
/-- the code in a row -/
def cO (n : zg_N) (k : Nat) : Nat × Int32 := ((zai n (at_readCode + 1 + k) 0).toNatClampNeg, zai n (at_readCode + 1 + k) 1)
/-- the codes from i up to j say v -/
def tGt (n : zg_N) (i j : Nat) (v : zW) : Prop := (∀ h, tOk (cO n) i (j - i) h (h + 1)) ∧ (∀ fc st, tRun fc (cO n) i (j - i) st = v fc :: st) ∧ ∀ k, i ≤ k → k < j → zai n (at_readCode + 1 + k) 0 = nI (cO n k).1
theorem tOk_app {c : Nat → Nat × Int32} : ∀ (m1 m2 i h h1 h2 : Nat), tOk c i m1 h h1 → tOk c (i + m1) m2 h1 h2 → tOk c i (m1 + m2) h h2
  | 0, m2, i, h, h1, h2, a, b => by
    have e : h1 = h := a
    subst e
    rw [Nat.zero_add]; exact b
  | m1 + 1, m2, i, h, h1, h2, a, b => by
    rw [show m1 + 1 + m2 = (m1 + m2) + 1 by omega]
    have b' : tOk c (i + 1 + m1) m2 h1 h2 := by rw [show i + 1 + m1 = i + (m1 + 1) by omega]; exact b
    rcases a with ⟨x, y⟩ | ⟨x, z, y⟩ | ⟨x, z, y⟩ | ⟨x, z, u, w, y⟩
    · exact Or.inl ⟨x, tOk_app m1 m2 _ _ _ _ y b'⟩
    · exact Or.inr (Or.inl ⟨x, z, tOk_app m1 m2 _ _ _ _ y b'⟩)
    · exact Or.inr (Or.inr (Or.inl ⟨x, z, tOk_app m1 m2 _ _ _ _ y b'⟩))
    · exact Or.inr (Or.inr (Or.inr ⟨x, z, u, w, tOk_app m1 m2 _ _ _ _ y b'⟩))
theorem tRun_app (fc : Nat → Int32) (c : Nat → Nat × Int32) : ∀ (m1 m2 i : Nat) (st : List Int32), tRun fc c i (m1 + m2) st = tRun fc c (i + m1) m2 (tRun fc c i m1 st)
  | 0, m2, i, st => by rw [Nat.zero_add]; rfl
  | m1 + 1, m2, i, st => by
    rw [show m1 + 1 + m2 = (m1 + m2) + 1 by omega, tRun_s, tRun_s, tRun_app fc c m1 m2 (i + 1), show i + 1 + m1 = i + (m1 + 1) by omega]
theorem tOk_cg {c c' : Nat → Nat × Int32} : ∀ (m i h h1 : Nat), (∀ k, i ≤ k → k < i + m → c' k = c k) → tOk c i m h h1 → tOk c' i m h h1
  | 0, _, _, _, _, a => a
  | m + 1, i, h, h1, e, a => by
    have e0 := e i (Nat.le_refl _) (by omega)
    have r := fun h => tOk_cg (c := c) (c' := c') m (i + 1) h h1 (fun k h1 h2 => e k (by omega) (by omega))
    rcases a with ⟨x, y⟩ | ⟨x, z, y⟩ | ⟨x, z, y⟩ | ⟨x, z, u, w, y⟩
    · exact Or.inl ⟨by rw [e0]; exact x, r _ y⟩
    · exact Or.inr (Or.inl ⟨by rw [e0]; exact x, by rw [e0]; exact z, r _ y⟩)
    · exact Or.inr (Or.inr (Or.inl ⟨by rw [e0]; exact x, z, r _ y⟩))
    · exact Or.inr (Or.inr (Or.inr ⟨by rw [e0]; exact x, by rw [e0]; exact z, by rw [e0]; exact u, w, r _ y⟩))
theorem tRun_cg (fc : Nat → Int32) {c c' : Nat → Nat × Int32} : ∀ (m i : Nat) (st : List Int32), (∀ k, i ≤ k → k < i + m → c' k = c k) → tRun fc c' i m st = tRun fc c i m st
  | 0, _, _, _ => rfl
  | m + 1, i, st, e => by rw [tRun_s, tRun_s, e i (Nat.le_refl _) (by omega), tRun_cg fc m (i + 1) _ (fun k h1 h2 => e k (by omega) (by omega))]
theorem tGt.cg {n n' : zg_N} {i j : Nat} {v : zW} (h : tGt n i j v) (hij : i ≤ j) (e : ∀ r, r < j → ∀ k, zai n' (at_readCode + 1 + r) k = zai n (at_readCode + 1 + r) k) : tGt n' i j v := by
  have ec : ∀ k, i ≤ k → k < i + (j - i) → cO n' k = cO n k := fun k _ h2 => by unfold cO; rw [e k (by omega), e k (by omega)]
  exact ⟨fun h9 => tOk_cg _ _ _ _ ec (h.1 h9), fun fc st => by rw [tRun_cg fc _ _ _ ec]; exact h.2.1 fc st, fun k h1 h2 => by rw [ec k h1 (by omega), e k h2]; exact h.2.2 k h1 h2⟩
/-- one more code behind what there is -/
def sy (n : zg_N) (i : Nat) (w v : Int32) : zg_N := zpfi (zpai (zpai n (at_readCode + 1 + i) 0 w) (at_readCode + 1 + i) 1 v) aT tf_readCodes (nI (i + 1))
theorem sy_o (n : zg_N) (i : Nat) (w v : Int32) : ∀ r, r < i → ∀ k, zai (sy n i w v) (at_readCode + 1 + r) k = zai n (at_readCode + 1 + r) k := fun r hr k => by
  show zai (zpai (zpai n (at_readCode + 1 + i) 0 w) (at_readCode + 1 + i) 1 v) (at_readCode + 1 + r) k = _
  rw [zai_p, if_neg (fun z => by omega), zai_p, if_neg (fun z => by omega)]
theorem sy_c (n : zg_N) (i w : Nat) (v : Int32) (hw : w < 100) : cO (sy n i (nI w) v) i = (w, v) := by
  unfold cO
  have e0 : zai (sy n i (nI w) v) (at_readCode + 1 + i) 0 = nI w := by
    show zai (zpai (zpai n (at_readCode + 1 + i) 0 (nI w)) (at_readCode + 1 + i) 1 v) (at_readCode + 1 + i) 0 = _
    rw [zai_p, if_neg (fun z => absurd z.2 (by decide)), zai_p, if_pos ⟨rfl, rfl⟩]
  have e1 : zai (sy n i (nI w) v) (at_readCode + 1 + i) 1 = v := by
    show zai (zpai (zpai n (at_readCode + 1 + i) 0 (nI w)) (at_readCode + 1 + i) 1 v) (at_readCode + 1 + i) 1 = _
    rw [zai_p, if_pos ⟨rfl, rfl⟩]
  rw [e0, e1, nI_clamp (by omega)]
theorem sy_z (n : zg_N) (i w : Nat) (v : Int32) (hw : w < 100) : zai (sy n i (nI w) v) (at_readCode + 1 + i) 0 = nI (cO (sy n i (nI w) v) i).1 := by
  rw [sy_c n i w v hw]
  show zai (zpai (zpai n (at_readCode + 1 + i) 0 (nI w)) (at_readCode + 1 + i) 1 v) (at_readCode + 1 + i) 0 = _
  rw [zai_p, if_neg (fun z => absurd z.2 (by decide)), zai_p, if_pos ⟨rfl, rfl⟩]
theorem tGt.num (n : zg_N) (i k : Nat) : tGt (sy n i 0 (nI k)) i (i + 1) (vK k) := by
  have hc := sy_c n i 0 (nI k) (by decide)
  have hz := sy_z n i 0 (nI k) (by decide)
  rw [show nI 0 = 0 from rfl] at hc hz
  refine ⟨fun h => ?_, fun fc st => ?_, fun k2 h1 h2 => by rw [show k2 = i by omega]; exact hz⟩
  · rw [show i + 1 - i = 0 + 1 by omega]
    exact Or.inl ⟨by rw [hc], rfl⟩
  · rw [show i + 1 - i = 0 + 1 by omega, tRun_s, hc]; rfl
theorem tGt.fact (n : zg_N) (i k : Nat) (hk : k < 10) : tGt (sy n i 1 (nI k)) i (i + 1) (vF k) := by
  have hc := sy_c n i 1 (nI k) (by decide)
  have hz := sy_z n i 1 (nI k) (by decide)
  rw [show nI 1 = 1 from rfl] at hc hz
  refine ⟨fun h => ?_, fun fc st => ?_, fun k2 h1 h2 => by rw [show k2 = i by omega]; exact hz⟩
  · rw [show i + 1 - i = 0 + 1 by omega]
    exact Or.inr (Or.inl ⟨by rw [hc], ⟨k, hk, by rw [hc]⟩, rfl⟩)
  · rw [show i + 1 - i = 0 + 1 by omega, tRun_s, hc]
    show tStep fc (1, nI k) st = _
    unfold tStep
    rw [if_neg (show ¬ (1 : Nat) = 0 by decide), if_pos rfl, nI_clamp (by omega)]; rfl
theorem tGt.not {n : zg_N} {i j : Nat} {u : zW} (h : tGt n i j u) (hij : i ≤ j) : tGt (sy n j 8 0) i (j + 1) (vN u) := by
  have hc := sy_c n j 8 0 (by decide)
  have hz := sy_z n j 8 0 (by decide)
  rw [show nI 8 = 8 from rfl] at hc hz
  have h' := h.cg hij (sy_o n j 8 0)
  refine ⟨fun h9 => ?_, fun fc st => ?_, fun k2 h1 h2 => if e : k2 = j then (by rw [e]; exact hz) else h'.2.2 k2 h1 (by omega)⟩
  · rw [show j + 1 - i = (j - i) + 1 by omega]
    refine tOk_app _ 1 _ _ _ _ (h'.1 h9) ?_
    rw [show i + (j - i) = j by omega]
    exact Or.inr (Or.inr (Or.inl ⟨by rw [hc], by omega, rfl⟩))
  · rw [show j + 1 - i = (j - i) + 1 by omega, tRun_app, h'.2.1, show i + (j - i) = j by omega, tRun_s, hc]; rfl
theorem tGt.bin {n : zg_N} {i j k w : Nat} {u v : zW} (hu : tGt n i j u) (hv : tGt n j k v) (hij : i ≤ j) (hjk : j ≤ k) (hw : 2 ≤ w ∧ w ≤ 10 ∧ w ≠ 8) : tGt (sy n k (nI w) 0) i (k + 1) (vB w u v) := by
  have hc := sy_c n k w 0 (by omega)
  have hu' := hu.cg hij (fun r hr q => sy_o n k (nI w) 0 r (by omega) q)
  have hv' := hv.cg hjk (sy_o n k (nI w) 0)
  have hz := sy_z n k w 0 (by omega)
  refine ⟨fun h9 => ?_, fun fc st => ?_, fun k2 h1 h2 => if e : k2 = k then (by rw [e]; exact hz) else if e2 : k2 < j then hu'.2.2 k2 h1 e2 else hv'.2.2 k2 (by omega) (by omega)⟩
  · rw [show k + 1 - i = (j - i) + ((k - j) + 1) by omega]
    refine tOk_app _ _ _ _ _ _ (hu'.1 h9) ?_
    rw [show i + (j - i) = j by omega]
    refine tOk_app _ 1 _ _ _ _ (hv'.1 (h9 + 1)) ?_
    rw [show j + (k - j) = k by omega]
    exact Or.inr (Or.inr (Or.inr ⟨by rw [hc]; exact hw.2.2, by rw [hc]; exact hw.1, by rw [hc]; exact hw.2.1, by omega, rfl⟩))
  · rw [show k + 1 - i = (j - i) + ((k - j) + 1) by omega, tRun_app, hu'.2.1, show i + (j - i) = j by omega, tRun_app, hv'.2.1, show j + (k - j) = k by omega, tRun_s, hc]
    show tStep fc (w, 0) (v fc :: u fc :: st) = _
    unfold tStep
    rw [if_neg (by show ¬ w = 0; omega), if_neg (by show ¬ w = 1; omega), if_neg (by show ¬ w = 8; omega)]; rfl
theorem TRd.s {n n' : zg_N} {b : Nat → Nat} {N p o : Nat} (h : TRd n b N p o) (hf : zFr (fun a k => a = aT ∧ k = tf_readCodes) ttA n n') : TRd n' b N p o := by
  have f : ∀ k, k ≠ tf_readCodes → zfi n' aT k = zfi n aT k := fun k hk => (hf.1 aT k (fun z => hk z.2)).1
  exact ⟨h.1.keep3 (hf.mono (fun _ _ z => Or.inr z) (fun _ z => z)), (f tf_fault (by decide)).trans h.2.1, (f tf_at (by decide)).trans h.2.2.1, (f tf_open (by decide)).trans h.2.2.2.1, h.2.2.2.2.1, (f tf_faultAt (by decide)).trans h.2.2.2.2.2⟩
theorem sy_fr {n : zg_N} {i : Nat} {w v : Int32} (hi : i < 220) : zFr (fun a k => a = aT ∧ k = tf_readCodes) ttA n (sy n i w v) := ((zFr.rf.pai (ttA_r hi)).pai (ttA_r hi)).pfi ⟨rfl, rfl⟩
theorem sy_ft {n : zg_N} {i : Nat} {w v : Int32} (hi : i < 220) : zFr ttF ttA n (sy n i w v) := (sy_fr hi).mono (fun _ _ z => Or.inr z) (fun _ z => z)
theorem t_says {g : zg_G} {n : zg_N} (hM : TSh g) (h0 : zfi n aT tf_fault = 0) (i : Nat) (hi : zfi n aT tf_readCodes = nI i) (hi2 : i < 220) (w v : Int32) : PW zm_X6_says 1 (zE none g (sy n i w v)) 0 0 0 [(0, .ref aT), (1, .int w), (2, .int v)] [] g n := by
  refine pw_aload_n dX6_says_0 0 rfl rfl ?_
  refine pw_geti 5 zc_X6 (ts_this hM) (by decide) q1991 (Or.inl rfl) dX6_says_1 ?_
  refine pw_if_eq 8 dX6_says_4 (by decide) (fun c_4 => ?_) (fun c_4 => ?_)
  · refine pw_aload_n dX6_says_8 0 rfl rfl ?_
    refine pw_getr 32 zc_X6 (ts_this hM) (by decide) q2018 (Or.inr ⟨_, rfl⟩) (tr_readCode hM) dX6_says_9 ?_
    refine pw_aload_n dX6_says_12 0 rfl rfl ?_
    refine pw_geti 28 zc_X6 (ts_this hM) (by decide) q2014 (Or.inl rfl) dX6_says_13 ?_
    rw [hi]
    refine pw_aald i rfl (ts_readCode hM) rfl (Or.inr ⟨_, rfl⟩) (tw_readCode hM i (by omega)) (by omega) (by decide) dX6_says_16 ?_
    refine pw_iconst (v := 0) dX6_says_17 (by decide) ?_
    refine pw_iload_n dX6_says_18 1 rfl rfl ?_
    refine pw_iast 0 rfl (tv_readCode hM i (by omega)) (zK_e (by decide)) (by decide) (by decide) dX6_says_19 ?_
    refine pw_aload_n dX6_says_20 0 rfl rfl ?_
    refine pw_getr 32 zc_X6 (ts_this hM) (by decide) q2018 (Or.inr ⟨_, rfl⟩) (tr_readCode hM) dX6_says_21 ?_
    refine pw_aload_n dX6_says_24 0 rfl rfl ?_
    refine pw_geti 28 zc_X6 (ts_this hM) (by decide) q2014 (Or.inl rfl) dX6_says_25 ?_
    rw [show zfi (zpai n (at_readCode + 1 + i) 0 w) aT tf_readCodes = nI i from hi]
    refine pw_aald i rfl (ts_readCode hM) rfl (Or.inr ⟨_, rfl⟩) (tw_readCode hM i (by omega)) (by omega) (by decide) dX6_says_28 ?_
    refine pw_iconst (v := 1) dX6_says_29 (by decide) ?_
    refine pw_iload_n dX6_says_30 2 rfl rfl ?_
    refine pw_iast 1 rfl (tv_readCode hM i (by omega)) (zK_e (by decide)) (by decide) (by decide) dX6_says_31 ?_
    refine pw_aload_n dX6_says_32 0 rfl rfl ?_
    refine pw_dup dX6_says_33 rfl ?_
    refine pw_geti 28 zc_X6 (ts_this hM) (by decide) q2014 (Or.inl rfl) dX6_says_34 ?_
    rw [show zfi (zpai (zpai n (at_readCode + 1 + i) 0 w) (at_readCode + 1 + i) 1 v) aT tf_readCodes = nI i from hi]
    refine pw_iconst (v := 1) dX6_says_37 (by decide) ?_
    refine pw_iadd dX6_says_38 ?_
    rw [nI_1]
    refine pw_puti 28 zc_X6 (ts_this hM) (by decide) (by decide) q2014 rfl (Or.inl rfl) rfl rfl dX6_says_39 ?_
    refine pw_vret rfl dX6_says_42 ?_
    exact ⟨rfl, rfl, rfl⟩
  · exact absurd h0 c_4
theorem t_saysF {g : zg_G} {n : zg_N} (hM : TSh g) (h0 : ¬ zfi n aT tf_fault = 0) (w v : Int32) : PW zm_X6_says 1 (zE none g n) 0 0 0 [(0, .ref aT), (1, .int w), (2, .int v)] [] g n := by
  refine pw_aload_n dX6_says_0 0 rfl rfl ?_
  refine pw_geti 5 zc_X6 (ts_this hM) (by decide) q1991 (Or.inl rfl) dX6_says_1 ?_
  refine pw_if_eq 8 dX6_says_4 (by decide) (fun c_4 => ?_) (fun c_4 => ?_)
  · exact absurd c_4 h0
  · refine pw_vret rfl dX6_says_7 ?_
    exact ⟨rfl, rfl, rfl⟩
theorem t_valueF {g : zg_G} {n : zg_N} (hM : TSh g) (h0 : ¬ zfi n aT tf_fault = 0) : PW zm_X6_oneValue 1 (zE none g n) 0 0 0 [(0, .ref aT)] [] g n := by
  refine pw_aload_n dX6_oneValue_0 0 rfl rfl ?_
  refine pw_geti 5 zc_X6 (ts_this hM) (by decide) q1991 (Or.inl rfl) dX6_oneValue_1 ?_
  refine pw_if_eq 8 dX6_oneValue_4 (by decide) (fun c_4 => ?_) (fun c_4 => ?_)
  · exact absurd c_4 h0
  · refine pw_vret rfl dX6_oneValue_7 ?_
    exact ⟨rfl, rfl, rfl⟩
theorem t_productF {g : zg_G} {n : zg_N} (hM : TSh g) (h0 : ¬ zfi n aT tf_fault = 0) : PW zm_X6_product 4 (zE none g n) 0 0 0 [(0, .ref aT)] [] g n := by
  refine pw_aload_n dX6_product_0 0 rfl rfl ?_
  refine pw_callV0 zmM_X6_oneValue rfl (lw_V q2312 q2314 qs87 q150 q2315) rfl (ts_this hM) zc_X6 (t_valueF hM h0) (by decide) (Nat.le_refl _) (Nat.le_refl _) rfl (Nat.le_of_ble_eq_true rfl) (Nat.le_of_ble_eq_true rfl) dX6_product_1 zE.nx (zE_kk ?_)
  refine pw_aload_n dX6_product_4 0 rfl rfl ?_
  refine pw_bipush (v := 42) dX6_product_5 (by decide) ?_
  refine pw_callV1 zmM_X6_takesSign rfl (lw_V q2320 q2322 qs89 q150 q2323) rfl (ts_this hM) zc_X6 (t_takesSignF hM h0 _) (by decide) (Nat.le_refl _) (Nat.le_refl _) rfl (Nat.le_of_ble_eq_true rfl) (Nat.le_of_ble_eq_true rfl) dX6_product_7 zE.nx (zE_kk ?_)
  refine pw_if_eq 26 dX6_product_10 (by decide) (fun c_10 => ?_) (fun c_10 => ?_)
  · refine pw_vret rfl dX6_product_26 ?_
    exact ⟨rfl, rfl, rfl⟩
  · exact absurd rfl c_10
theorem t_sumF {g : zg_G} {n : zg_N} (hM : TSh g) (h0 : ¬ zfi n aT tf_fault = 0) : PW zm_X6_sum 5 (zE none g n) 0 0 0 [(0, .ref aT)] [] g n := by
  refine pw_aload_n dX6_sum_0 0 rfl rfl ?_
  refine pw_callV0 zmM_X6_product rfl (lw_V q2308 q2310 qs86 q150 q2311) rfl (ts_this hM) zc_X6 (t_productF hM h0) (by decide) (Nat.le_refl _) (Nat.le_refl _) rfl (Nat.le_of_ble_eq_true rfl) (Nat.le_of_ble_eq_true rfl) dX6_sum_1 zE.nx (zE_kk ?_)
  refine pw_aload_n dX6_sum_4 0 rfl rfl ?_
  refine pw_geti 5 zc_X6 (ts_this hM) (by decide) q1991 (Or.inl rfl) dX6_sum_5 ?_
  refine pw_if_ne 58 dX6_sum_8 (by decide) (fun c_8 => ?_) (fun c_8 => ?_)
  · refine pw_vret rfl dX6_sum_58 ?_
    exact ⟨rfl, rfl, rfl⟩
  · exact absurd c_8 h0
theorem t_toneF {g : zg_G} {n : zg_N} (hM : TSh g) (h0 : ¬ zfi n aT tf_fault = 0) : PW zm_X6_tongueOne 1 (zE none g n) 0 0 0 [(0, .ref aT)] [] g n := by
  refine pw_aload_n dX6_tongueOne_0 0 rfl rfl ?_
  refine pw_geti 5 zc_X6 (ts_this hM) (by decide) q1991 (Or.inl rfl) dX6_tongueOne_1 ?_
  refine pw_if_eq 8 dX6_tongueOne_4 (by decide) (fun c_4 => ?_) (fun c_4 => ?_)
  · exact absurd c_4 h0
  · refine pw_vret rfl dX6_tongueOne_7 ?_
    exact ⟨rfl, rfl, rfl⟩
theorem t_teachF {g : zg_G} {n : zg_N} (hM : TSh g) (h0 : ¬ zfi n aT tf_fault = 0) : PW zm_X6_tongueEach 6 (zE none g n) 0 0 0 [(0, .ref aT)] [] g n := by
  refine pw_aload_n dX6_tongueEach_0 0 rfl rfl ?_
  refine pw_callV0 zmM_X6_tongueOne rfl (lw_V q2296 q2298 qs83 q150 q2299) rfl (ts_this hM) zc_X6 (t_toneF hM h0) (by decide) (Nat.le_refl _) (Nat.le_refl _) rfl (Nat.le_of_ble_eq_true rfl) (Nat.le_of_ble_eq_true rfl) dX6_tongueEach_1 zE.nx (zE_kk ?_)
  refine pw_aload_n dX6_tongueEach_4 0 rfl rfl ?_
  refine pw_iconst (v := 1) dX6_tongueEach_5 (by decide) ?_
  refine pw_bipush (v := 14) dX6_tongueEach_6 (by decide) ?_
  refine pw_iconst (v := 4) dX6_tongueEach_8 (by decide) ?_
  refine pw_iconst (v := 0) dX6_tongueEach_9 (by decide) ?_
  refine pw_iconst (v := 0) dX6_tongueEach_10 (by decide) ?_
  refine pw_iconst (v := 0) dX6_tongueEach_11 (by decide) ?_
  refine pw_callV6 zmM_X6_takes rfl (lw_V q2266 q2268 qs79 q150 q2269) rfl (ts_this hM) zc_X6 (t_takesF hM h0 _ _ _ _ _ _) (by decide) (Nat.le_refl _) (Nat.le_refl _) rfl (Nat.le_of_ble_eq_true rfl) (Nat.le_of_ble_eq_true rfl) dX6_tongueEach_12 zE.nx (zE_kk ?_)
  refine pw_if_eq 32 dX6_tongueEach_15 (by decide) (fun c_15 => ?_) (fun c_15 => ?_)
  · refine pw_vret rfl dX6_tongueEach_32 ?_
    exact ⟨rfl, rfl, rfl⟩
  · exact absurd rfl c_15
theorem t_tanyF {g : zg_G} {n : zg_N} (hM : TSh g) (h0 : ¬ zfi n aT tf_fault = 0) : PW zm_X6_tongueAny 7 (zE none g n) 0 0 0 [(0, .ref aT)] [] g n := by
  refine pw_aload_n dX6_tongueAny_0 0 rfl rfl ?_
  refine pw_callV0 zmM_X6_tongueEach rfl (lw_V q2292 q2294 qs82 q150 q2295) rfl (ts_this hM) zc_X6 (t_teachF hM h0) (by decide) (Nat.le_refl _) (Nat.le_refl _) rfl (Nat.le_of_ble_eq_true rfl) (Nat.le_of_ble_eq_true rfl) dX6_tongueAny_1 zE.nx (zE_kk ?_)
  refine pw_aload_n dX6_tongueAny_4 0 rfl rfl ?_
  refine pw_bipush (v := 15) dX6_tongueAny_5 (by decide) ?_
  refine pw_bipush (v := 18) dX6_tongueAny_7 (by decide) ?_
  refine pw_iconst (v := 0) dX6_tongueAny_9 (by decide) ?_
  refine pw_iconst (v := 0) dX6_tongueAny_10 (by decide) ?_
  refine pw_iconst (v := 0) dX6_tongueAny_11 (by decide) ?_
  refine pw_iconst (v := 0) dX6_tongueAny_12 (by decide) ?_
  refine pw_callV6 zmM_X6_takes rfl (lw_V q2266 q2268 qs79 q150 q2269) rfl (ts_this hM) zc_X6 (t_takesF hM h0 _ _ _ _ _ _) (by decide) (Nat.le_refl _) (Nat.le_refl _) rfl (Nat.le_of_ble_eq_true rfl) (Nat.le_of_ble_eq_true rfl) dX6_tongueAny_13 zE.nx (zE_kk ?_)
  refine pw_if_eq 33 dX6_tongueAny_16 (by decide) (fun c_16 => ?_) (fun c_16 => ?_)
  · refine pw_vret rfl dX6_tongueAny_33 ?_
    exact ⟨rfl, rfl, rfl⟩
  · exact absurd rfl c_16
def kW (k : Nat) : Int32 := if k = 10 then -1 else nI k
/-- behind a known word -/
def aftK (b : Nat → Nat) (N q : Nat) : Nat := if pFact (tWd b N q) = 10 then q else q + (tWd b N q).length
theorem t_knownHere {g : zg_G} {n : zg_N} {b : Nat → Nat} {N q o : Nat} (hM : TSh g) (hsk : skp b N q = q) (hR : TRd n b N q o) : PW zm_X6_knownHere 6 (rP g n b N o (some (.int (kW (pFact (tWd b N q))))) (aftK b N q)) 0 0 0 [(0, .ref aT)] [] g n := by
  generalize hL : tWd b N q = L
  have hak : ∀ k, pFact L = k → k ≠ 10 → aftK b N q = q + L.length := fun k h h2 => by unfold aftK; rw [hL, if_neg (by rw [h]; exact h2)]
  have haw : ∀ w, aftW b N w q = if L = w then q + w.length else q := fun w => by unfold aftW; rw [hsk, hL]
  refine pw_aload_n dX6_knownHere_0 0 rfl rfl ?_
  refine pw_iconst (v := 1) dX6_knownHere_1 (by decide) ?_
  refine pw_bipush (v := 7) dX6_knownHere_2 (by decide) ?_
  refine pw_iconst (v := 5) dX6_knownHere_4 (by decide) ?_
  refine pw_iconst (v := 0) dX6_knownHere_5 (by decide) ?_
  refine pw_iconst (v := 0) dX6_knownHere_6 (by decide) ?_
  refine pw_iconst (v := 0) dX6_knownHere_7 (by decide) ?_
  refine pw_callV6 zmM_X6_takes rfl (lw_V q2266 q2268 qs79 q150 q2269) rfl (ts_this hM) zc_X6 (t_takes hM hR [97, 103, 101] (by decide)) (by decide) (Nat.le_refl _) (Nat.le_refl _) rfl (Nat.le_of_ble_eq_true rfl) (Nat.le_of_ble_eq_true rfl) dX6_knownHere_8 (by intros; rintro ⟨h, _⟩; cases h) (fun v1 g1 n1 h1 => ?_)
  obtain ⟨h1, rfl, hR1, hf1⟩ := h1; cases h1
  rw [haw] at hR1
  rw [hsk, hL]
  refine pw_if_eq_B 16 dX6_knownHere_11 (by decide) (fun c_11 => ?_) (fun c_11 => ?_)
  · rw [if_neg c_11] at hR1
    refine pw_aload_n dX6_knownHere_16 0 rfl rfl ?_
    refine pw_bipush (v := 8) dX6_knownHere_17 (by decide) ?_
    refine pw_bipush (v := 21) dX6_knownHere_19 (by decide) ?_
    refine pw_bipush (v := 18) dX6_knownHere_21 (by decide) ?_
    refine pw_bipush (v := 20) dX6_knownHere_23 (by decide) ?_
    refine pw_bipush (v := 19) dX6_knownHere_25 (by decide) ?_
    refine pw_iconst (v := 0) dX6_knownHere_27 (by decide) ?_
    refine pw_callV6 zmM_X6_takes rfl (lw_V q2266 q2268 qs79 q150 q2269) rfl (ts_this hM) zc_X6 (t_takes hM hR1 [104, 117, 114, 116, 115] (by decide)) (by decide) (Nat.le_refl _) (Nat.le_refl _) rfl (Nat.le_of_ble_eq_true rfl) (Nat.le_of_ble_eq_true rfl) dX6_knownHere_28 (by intros; rintro ⟨h, _⟩; cases h) (fun v2 g2 n2 h2 => ?_)
    obtain ⟨h2, rfl, hR2, hf2⟩ := h2; cases h2
    rw [haw] at hR2
    rw [hsk, hL]
    replace hf2 := hf1.tr hf2
    refine pw_if_eq_B 36 dX6_knownHere_31 (by decide) (fun c_31 => ?_) (fun c_31 => ?_)
    · rw [if_neg c_31] at hR2
      refine pw_aload_n dX6_knownHere_36 0 rfl rfl ?_
      refine pw_bipush (v := 15) dX6_knownHere_37 (by decide) ?_
      refine pw_bipush (v := 12) dX6_knownHere_39 (by decide) ?_
      refine pw_iconst (v := 4) dX6_knownHere_41 (by decide) ?_
      refine pw_bipush (v := 19) dX6_knownHere_42 (by decide) ?_
      refine pw_iconst (v := 0) dX6_knownHere_44 (by decide) ?_
      refine pw_iconst (v := 0) dX6_knownHere_45 (by decide) ?_
      refine pw_callV6 zmM_X6_takes rfl (lw_V q2266 q2268 qs79 q150 q2269) rfl (ts_this hM) zc_X6 (t_takes hM hR2 [111, 108, 100, 115] (by decide)) (by decide) (Nat.le_refl _) (Nat.le_refl _) rfl (Nat.le_of_ble_eq_true rfl) (Nat.le_of_ble_eq_true rfl) dX6_knownHere_46 (by intros; rintro ⟨h, _⟩; cases h) (fun v3 g3 n3 h3 => ?_)
      obtain ⟨h3, rfl, hR3, hf3⟩ := h3; cases h3
      rw [haw] at hR3
      rw [hsk, hL]
      replace hf3 := hf2.tr hf3
      refine pw_if_eq_B 54 dX6_knownHere_49 (by decide) (fun c_49 => ?_) (fun c_49 => ?_)
      · rw [if_neg c_49] at hR3
        refine pw_aload_n dX6_knownHere_54 0 rfl rfl ?_
        refine pw_bipush (v := 14) dX6_knownHere_55 (by decide) ?_
        refine pw_iconst (v := 5) dX6_knownHere_57 (by decide) ?_
        refine pw_bipush (v := 23) dX6_knownHere_58 (by decide) ?_
        refine pw_bipush (v := 19) dX6_knownHere_60 (by decide) ?_
        refine pw_iconst (v := 0) dX6_knownHere_62 (by decide) ?_
        refine pw_iconst (v := 0) dX6_knownHere_63 (by decide) ?_
        refine pw_callV6 zmM_X6_takes rfl (lw_V q2266 q2268 qs79 q150 q2269) rfl (ts_this hM) zc_X6 (t_takes hM hR3 [110, 101, 119, 115] (by decide)) (by decide) (Nat.le_refl _) (Nat.le_refl _) rfl (Nat.le_of_ble_eq_true rfl) (Nat.le_of_ble_eq_true rfl) dX6_knownHere_64 (by intros; rintro ⟨h, _⟩; cases h) (fun v4 g4 n4 h4 => ?_)
        obtain ⟨h4, rfl, hR4, hf4⟩ := h4; cases h4
        rw [haw] at hR4
        rw [hsk, hL]
        replace hf4 := hf3.tr hf4
        refine pw_if_eq_B 72 dX6_knownHere_67 (by decide) (fun c_67 => ?_) (fun c_67 => ?_)
        · rw [if_neg c_67] at hR4
          refine pw_aload_n dX6_knownHere_72 0 rfl rfl ?_
          refine pw_bipush (v := 15) dX6_knownHere_73 (by decide) ?_
          refine pw_bipush (v := 12) dX6_knownHere_75 (by decide) ?_
          refine pw_iconst (v := 4) dX6_knownHere_77 (by decide) ?_
          refine pw_bipush (v := 14) dX6_knownHere_78 (by decide) ?_
          refine pw_iconst (v := 0) dX6_knownHere_80 (by decide) ?_
          refine pw_iconst (v := 0) dX6_knownHere_81 (by decide) ?_
          refine pw_callV6 zmM_X6_takes rfl (lw_V q2266 q2268 qs79 q150 q2269) rfl (ts_this hM) zc_X6 (t_takes hM hR4 [111, 108, 100, 110] (by decide)) (by decide) (Nat.le_refl _) (Nat.le_refl _) rfl (Nat.le_of_ble_eq_true rfl) (Nat.le_of_ble_eq_true rfl) dX6_knownHere_82 (by intros; rintro ⟨h, _⟩; cases h) (fun v5 g5 n5 h5 => ?_)
          obtain ⟨h5, rfl, hR5, hf5⟩ := h5; cases h5
          rw [haw] at hR5
          rw [hsk, hL]
          replace hf5 := hf4.tr hf5
          refine pw_if_eq_B 90 dX6_knownHere_85 (by decide) (fun c_85 => ?_) (fun c_85 => ?_)
          · rw [if_neg c_85] at hR5
            refine pw_aload_n dX6_knownHere_90 0 rfl rfl ?_
            refine pw_bipush (v := 14) dX6_knownHere_91 (by decide) ?_
            refine pw_iconst (v := 5) dX6_knownHere_93 (by decide) ?_
            refine pw_bipush (v := 23) dX6_knownHere_94 (by decide) ?_
            refine pw_bipush (v := 14) dX6_knownHere_96 (by decide) ?_
            refine pw_iconst (v := 0) dX6_knownHere_98 (by decide) ?_
            refine pw_iconst (v := 0) dX6_knownHere_99 (by decide) ?_
            refine pw_callV6 zmM_X6_takes rfl (lw_V q2266 q2268 qs79 q150 q2269) rfl (ts_this hM) zc_X6 (t_takes hM hR5 [110, 101, 119, 110] (by decide)) (by decide) (Nat.le_refl _) (Nat.le_refl _) rfl (Nat.le_of_ble_eq_true rfl) (Nat.le_of_ble_eq_true rfl) dX6_knownHere_100 (by intros; rintro ⟨h, _⟩; cases h) (fun v6 g6 n6 h6 => ?_)
            obtain ⟨h6, rfl, hR6, hf6⟩ := h6; cases h6
            rw [haw] at hR6
            rw [hsk, hL]
            replace hf6 := hf5.tr hf6
            refine pw_if_eq_B 108 dX6_knownHere_103 (by decide) (fun c_103 => ?_) (fun c_103 => ?_)
            · rw [if_neg c_103] at hR6
              refine pw_aload_n dX6_knownHere_108 0 rfl rfl ?_
              refine pw_bipush (v := 23) dX6_knownHere_109 (by decide) ?_
              refine pw_iconst (v := 5) dX6_knownHere_111 (by decide) ?_
              refine pw_iconst (v := 5) dX6_knownHere_112 (by decide) ?_
              refine pw_bipush (v := 11) dX6_knownHere_113 (by decide) ?_
              refine pw_iconst (v := 0) dX6_knownHere_115 (by decide) ?_
              refine pw_iconst (v := 0) dX6_knownHere_116 (by decide) ?_
              refine pw_callV6 zmM_X6_takes rfl (lw_V q2266 q2268 qs79 q150 q2269) rfl (ts_this hM) zc_X6 (t_takes hM hR6 [119, 101, 101, 107] (by decide)) (by decide) (Nat.le_refl _) (Nat.le_refl _) rfl (Nat.le_of_ble_eq_true rfl) (Nat.le_of_ble_eq_true rfl) dX6_knownHere_117 (by intros; rintro ⟨h, _⟩; cases h) (fun v7 g7 n7 h7 => ?_)
              obtain ⟨h7, rfl, hR7, hf7⟩ := h7; cases h7
              rw [haw] at hR7
              rw [hsk, hL]
              replace hf7 := hf6.tr hf7
              refine pw_if_eq_B 126 dX6_knownHere_120 (by decide) (fun c_120 => ?_) (fun c_120 => ?_)
              · rw [if_neg c_120] at hR7
                refine pw_aload_n dX6_knownHere_126 0 rfl rfl ?_
                refine pw_bipush (v := 8) dX6_knownHere_127 (by decide) ?_
                refine pw_iconst (v := 5) dX6_knownHere_129 (by decide) ?_
                refine pw_bipush (v := 12) dX6_knownHere_130 (by decide) ?_
                refine pw_iconst (v := 4) dX6_knownHere_132 (by decide) ?_
                refine pw_iconst (v := 0) dX6_knownHere_133 (by decide) ?_
                refine pw_iconst (v := 0) dX6_knownHere_134 (by decide) ?_
                refine pw_callV6 zmM_X6_takes rfl (lw_V q2266 q2268 qs79 q150 q2269) rfl (ts_this hM) zc_X6 (t_takes hM hR7 [104, 101, 108, 100] (by decide)) (by decide) (Nat.le_refl _) (Nat.le_refl _) rfl (Nat.le_of_ble_eq_true rfl) (Nat.le_of_ble_eq_true rfl) dX6_knownHere_135 (by intros; rintro ⟨h, _⟩; cases h) (fun v8 g8 n8 h8 => ?_)
                obtain ⟨h8, rfl, hR8, hf8⟩ := h8; cases h8
                rw [haw] at hR8
                rw [hsk, hL]
                replace hf8 := hf7.tr hf8
                refine pw_if_eq_B 144 dX6_knownHere_138 (by decide) (fun c_138 => ?_) (fun c_138 => ?_)
                · rw [if_neg c_138] at hR8
                  refine pw_aload_n dX6_knownHere_144 0 rfl rfl ?_
                  refine pw_bipush (v := 12) dX6_knownHere_145 (by decide) ?_
                  refine pw_iconst (v := 5) dX6_knownHere_147 (by decide) ?_
                  refine pw_bipush (v := 6) dX6_knownHere_148 (by decide) ?_
                  refine pw_bipush (v := 20) dX6_knownHere_150 (by decide) ?_
                  refine pw_iconst (v := 0) dX6_knownHere_152 (by decide) ?_
                  refine pw_iconst (v := 0) dX6_knownHere_153 (by decide) ?_
                  refine pw_callV6 zmM_X6_takes rfl (lw_V q2266 q2268 qs79 q150 q2269) rfl (ts_this hM) zc_X6 (t_takes hM hR8 [108, 101, 102, 116] (by decide)) (by decide) (Nat.le_refl _) (Nat.le_refl _) rfl (Nat.le_of_ble_eq_true rfl) (Nat.le_of_ble_eq_true rfl) dX6_knownHere_154 (by intros; rintro ⟨h, _⟩; cases h) (fun v9 g9 n9 h9 => ?_)
                  obtain ⟨h9, rfl, hR9, hf9⟩ := h9; cases h9
                  rw [haw] at hR9
                  rw [hsk, hL]
                  replace hf9 := hf8.tr hf9
                  refine pw_if_eq_B 163 dX6_knownHere_157 (by decide) (fun c_157 => ?_) (fun c_157 => ?_)
                  · rw [if_neg c_157] at hR9
                    refine pw_aload_n dX6_knownHere_163 0 rfl rfl ?_
                    refine pw_bipush (v := 19) dX6_knownHere_164 (by decide) ?_
                    refine pw_bipush (v := 8) dX6_knownHere_166 (by decide) ?_
                    refine pw_iconst (v := 1) dX6_knownHere_168 (by decide) ?_
                    refine pw_bipush (v := 18) dX6_knownHere_169 (by decide) ?_
                    refine pw_iconst (v := 5) dX6_knownHere_171 (by decide) ?_
                    refine pw_iconst (v := 4) dX6_knownHere_172 (by decide) ?_
                    refine pw_callV6 zmM_X6_takes rfl (lw_V q2266 q2268 qs79 q150 q2269) rfl (ts_this hM) zc_X6 (t_takes hM hR9 [115, 104, 97, 114, 101, 100] (by decide)) (by decide) (Nat.le_refl _) (Nat.le_refl _) rfl (Nat.le_of_ble_eq_true rfl) (Nat.le_of_ble_eq_true rfl) dX6_knownHere_173 (by intros; rintro ⟨h, _⟩; cases h) (fun v10 g10 n10 h10 => ?_)
                    obtain ⟨h10, rfl, hR10, hf10⟩ := h10; cases h10
                    rw [haw] at hR10
                    rw [hsk, hL]
                    replace hf10 := hf9.tr hf10
                    refine pw_if_eq_B 184 dX6_knownHere_176 (by decide) (fun c_176 => ?_) (fun c_176 => ?_)
                    · rw [if_neg c_176] at hR10
                      refine pw_iconst (v := (-1)) dX6_knownHere_184 (by decide) ?_
                      refine pw_iret rfl dX6_knownHere_185 ?_
                      have e10 : pFact L = 10 := by unfold pFact; rw [if_neg c_11, if_neg c_31, if_neg c_49, if_neg c_67, if_neg c_85, if_neg c_103, if_neg c_120, if_neg c_138, if_neg c_157, if_neg c_176]
                      exact ⟨by rw [e10]; rfl, rfl, by unfold aftK; rw [hL, if_pos e10]; exact hR10, hf10⟩
                    · refine pw_bipush (v := 9) dX6_knownHere_179 (by decide) ?_
                      refine pw_goto 185 dX6_knownHere_181 (by decide) ?_
                      refine pw_iret rfl dX6_knownHere_185 ?_
                      rw [if_pos c_176] at hR10; exact ⟨by rw [c_176]; rfl, rfl, by rw [hak 9 (by rw [c_176]; rfl) (by decide), c_176]; exact hR10, hf10⟩
                  · refine pw_bipush (v := 8) dX6_knownHere_160 (by decide) ?_
                    refine pw_iret rfl dX6_knownHere_162 ?_
                    rw [if_pos c_157] at hR9; exact ⟨by rw [c_157]; rfl, rfl, by rw [hak 8 (by rw [c_157]; rfl) (by decide), c_157]; exact hR9, hf9⟩
                · refine pw_bipush (v := 7) dX6_knownHere_141 (by decide) ?_
                  refine pw_iret rfl dX6_knownHere_143 ?_
                  rw [if_pos c_138] at hR8; exact ⟨by rw [c_138]; rfl, rfl, by rw [hak 7 (by rw [c_138]; rfl) (by decide), c_138]; exact hR8, hf8⟩
              · refine pw_bipush (v := 6) dX6_knownHere_123 (by decide) ?_
                refine pw_iret rfl dX6_knownHere_125 ?_
                rw [if_pos c_120] at hR7; exact ⟨by rw [c_120]; rfl, rfl, by rw [hak 6 (by rw [c_120]; rfl) (by decide), c_120]; exact hR7, hf7⟩
            · refine pw_iconst (v := 5) dX6_knownHere_106 (by decide) ?_
              refine pw_iret rfl dX6_knownHere_107 ?_
              rw [if_pos c_103] at hR6; exact ⟨by rw [c_103]; rfl, rfl, by rw [hak 5 (by rw [c_103]; rfl) (by decide), c_103]; exact hR6, hf6⟩
          · refine pw_iconst (v := 4) dX6_knownHere_88 (by decide) ?_
            refine pw_iret rfl dX6_knownHere_89 ?_
            rw [if_pos c_85] at hR5; exact ⟨by rw [c_85]; rfl, rfl, by rw [hak 4 (by rw [c_85]; rfl) (by decide), c_85]; exact hR5, hf5⟩
        · refine pw_iconst (v := 3) dX6_knownHere_70 (by decide) ?_
          refine pw_iret rfl dX6_knownHere_71 ?_
          rw [if_pos c_67] at hR4; exact ⟨by rw [c_67]; rfl, rfl, by rw [hak 3 (by rw [c_67]; rfl) (by decide), c_67]; exact hR4, hf4⟩
      · refine pw_iconst (v := 2) dX6_knownHere_52 (by decide) ?_
        refine pw_iret rfl dX6_knownHere_53 ?_
        rw [if_pos c_49] at hR3; exact ⟨by rw [c_49]; rfl, rfl, by rw [hak 2 (by rw [c_49]; rfl) (by decide), c_49]; exact hR3, hf3⟩
    · refine pw_iconst (v := 1) dX6_knownHere_34 (by decide) ?_
      refine pw_iret rfl dX6_knownHere_35 ?_
      rw [if_pos c_31] at hR2; exact ⟨by rw [c_31]; rfl, rfl, by rw [hak 1 (by rw [c_31]; rfl) (by decide), c_31]; exact hR2, hf2⟩
  · refine pw_iconst (v := 0) dX6_knownHere_14 (by decide) ?_
    refine pw_iret rfl dX6_knownHere_15 ?_
    rw [if_pos c_11] at hR1; exact ⟨by rw [c_11]; rfl, rfl, by rw [hak 0 (by rw [c_11]; rfl) (by decide), c_11]; exact hR1, hf1⟩

/-! ===== the reference reads: a tongue's ground ===== -/
/-- what a ground's reader ends with: the codes from i0 on -/
def tT (g : zg_G) (n : zg_N) (b : Nat → Nat) (N o i0 i p : Nat) (r : zPR zW) : zP := fun out g1 n1 => out = .inl none ∧ g1 = g ∧ zFr ttF ttA n n1 ∧ (∀ k, k < i0 → ∀ j, zai n1 (at_readCode + 1 + k) j = zai n (at_readCode + 1 + k) j) ∧ match r with
  | .inr q => TRd n1 b N q.2 o ∧ ∃ j, i0 ≤ j ∧ j + p ≤ i + q.2 ∧ zfi n1 aT tf_readCodes = nI j ∧ tGt n1 i0 j q.1
  | .inl e => TFl n1 e
theorem tT.tr {g : zg_G} {n n1 : zg_N} {b : Nat → Nat} {N o i0 i p i' p' : Nat} {r : zPR zW} {out : Option Value ⊕ (String × Nat)} {g2 : zg_G} {n2 : zg_N} (hf : zFr ttF ttA n n1) (hk : ∀ k, k < i0 → ∀ j, zai n1 (at_readCode + 1 + k) j = zai n (at_readCode + 1 + k) j) (hp : i + p' ≤ i' + p) (h : tT g n1 b N o i0 i p r out g2 n2) : tT g n b N o i0 i' p' r out g2 n2 := by
  obtain ⟨h1, h2, h3, h4, h5⟩ := h
  refine ⟨h1, h2, hf.tr h3, fun k h j => (h4 k h j).trans (hk k h j), ?_⟩
  cases r with
  | inl e => exact h5
  | inr q =>
    obtain ⟨a1, j, a2, a3, a4⟩ := h5
    exact ⟨a1, j, a2, by omega, a4⟩
theorem tT.inl {g : zg_G} {n n1 : zg_N} {b : Nat → Nat} {N o i0 i p : Nat} {e : Nat × Nat} (hf : zFr ttF ttA n n1) (hk : ∀ k, k < i0 → ∀ j, zai n1 (at_readCode + 1 + k) j = zai n (at_readCode + 1 + k) j) (hF : TFl n1 e) : tT g n b N o i0 i p (.inl e) (.inl none) g n1 := ⟨rfl, rfl, hf, hk, hF⟩
theorem tT.inr {g : zg_G} {n n1 : zg_N} {b : Nat → Nat} {N o i0 i p j q : Nat} {v : zW} (hf : zFr ttF ttA n n1) (hk : ∀ k, k < i0 → ∀ j, zai n1 (at_readCode + 1 + k) j = zai n (at_readCode + 1 + k) j) (hR : TRd n1 b N q o) (h1 : i0 ≤ j) (h2 : j + p ≤ i + q) (h3 : zfi n1 aT tf_readCodes = nI j) (h4 : tGt n1 i0 j v) : tT g n b N o i0 i p (.inr (v, q)) (.inl none) g n1 := ⟨rfl, rfl, hf, hk, hR, j, h1, h2, h3, h4⟩
theorem rc_k {n n' : zg_N} (hf : zFr rF rA n n') : zfi n' aT tf_readCodes = zfi n aT tf_readCodes := (hf.1 aT tf_readCodes (fun z => by rcases z.2 with z | z | z | z <;> exact absurd z (by decide))).1
theorem rw_k {n n' : zg_N} (hf : zFr rF rA n n') (k j : Nat) : zai n' (at_readCode + 1 + k) j = zai n (at_readCode + 1 + k) j := (hf.2 _ (fun z => z) j).1
theorem tGt.r {n n' : zg_N} {i j : Nat} {v : zW} (h : tGt n i j v) (hij : i ≤ j) (hf : zFr rF rA n n') : tGt n' i j v := h.cg hij (fun r _ k => rw_k hf r k)
/-- as a premise: so many codes, not more than bytes -/
abbrev tCo (n : zg_N) (i p : Nat) : Prop := zfi n aT tf_readCodes = nI i ∧ i ≤ p
set_option maxHeartbeats 2000000 in
theorem t_pT {g : zg_G} {b : Nat → Nat} {N : Nat} (hM : TSh g) (hN : N ≤ 200) : ∀ f,
    (∀ o v p i n, o ≤ 6 → TRd n b N p o → tCo n i p → pOk (pT b N f 0 o v p) → PW zm_X6_tongueAny (3 * (6 - o) + 14) (tT g n b N o i i p (pT b N f 0 o v p)) 0 0 0 [(0, .ref aT)] [] g n) ∧
    (∀ o v p i0 i n, o ≤ 6 → TRd n b N p o → tCo n i p → i0 ≤ i → tGt n i0 i v → pOk (pT b N f 1 o v p) → PW zm_X6_tongueAny (3 * (6 - o) + 14) (tT g n b N o i0 i p (pT b N f 1 o v p)) 0 0 4 [(0, .ref aT)] [] g n) ∧
    (∀ o v p i n, o ≤ 6 → TRd n b N p o → tCo n i p → pOk (pT b N f 2 o v p) → PW zm_X6_tongueEach (3 * (6 - o) + 13) (tT g n b N o i i p (pT b N f 2 o v p)) 0 0 0 [(0, .ref aT)] [] g n) ∧
    (∀ o v p i0 i n, o ≤ 6 → TRd n b N p o → tCo n i p → i0 ≤ i → tGt n i0 i v → pOk (pT b N f 3 o v p) → PW zm_X6_tongueEach (3 * (6 - o) + 13) (tT g n b N o i0 i p (pT b N f 3 o v p)) 0 0 4 [(0, .ref aT)] [] g n) ∧
    (∀ o v p i n, o ≤ 6 → TRd n b N p o → tCo n i p → pOk (pT b N f 4 o v p) → PW zm_X6_tongueOne (3 * (6 - o) + 12) (tT g n b N o i i p (pT b N f 4 o v p)) 0 0 0 [(0, .ref aT)] [] g n) ∧
    (∀ o v p i n, o ≤ 6 → TRd n b N p o → tCo n i p → pOk (pT b N f 5 o v p) → PW zm_X6_sum (3 * (6 - o) + 10) (tT g n b N o i i p (pT b N f 5 o v p)) 0 0 0 [(0, .ref aT)] [] g n) ∧
    (∀ o v p i0 i n, o ≤ 6 → TRd n b N p o → tCo n i p → i0 ≤ i → tGt n i0 i v → pOk (pT b N f 6 o v p) → PW zm_X6_sum (3 * (6 - o) + 10) (tT g n b N o i0 i p (pT b N f 6 o v p)) 0 0 4 [(0, .ref aT)] [] g n) ∧
    (∀ o v p i n, o ≤ 6 → TRd n b N p o → tCo n i p → pOk (pT b N f 7 o v p) → PW zm_X6_product (3 * (6 - o) + 9) (tT g n b N o i i p (pT b N f 7 o v p)) 0 0 0 [(0, .ref aT)] [] g n) ∧
    (∀ o v p i0 i n, o ≤ 6 → TRd n b N p o → tCo n i p → i0 ≤ i → tGt n i0 i v → pOk (pT b N f 8 o v p) → PW zm_X6_product (3 * (6 - o) + 9) (tT g n b N o i0 i p (pT b N f 8 o v p)) 0 0 4 [(0, .ref aT)] [] g n) ∧
    (∀ o v p i n, o ≤ 6 → TRd n b N p o → tCo n i p → pOk (pT b N f 9 o v p) → PW zm_X6_oneValue (3 * (6 - o) + 8) (tT g n b N o i i p (pT b N f 9 o v p)) 0 0 0 [(0, .ref aT)] [] g n) := by
  intro f
  induction f with
  | zero => exact ⟨fun _ _ _ _ _ _ _ _ h => absurd rfl h, fun _ _ _ _ _ _ _ _ _ _ _ h => absurd rfl h, fun _ _ _ _ _ _ _ _ h => absurd rfl h, fun _ _ _ _ _ _ _ _ _ _ _ h => absurd rfl h, fun _ _ _ _ _ _ _ _ h => absurd rfl h, fun _ _ _ _ _ _ _ _ h => absurd rfl h, fun _ _ _ _ _ _ _ _ _ _ _ h => absurd rfl h, fun _ _ _ _ _ _ _ _ h => absurd rfl h, fun _ _ _ _ _ _ _ _ _ _ _ h => absurd rfl h, fun _ _ _ _ _ _ _ _ h => absurd rfl h⟩
  | succ f ih =>
    obtain ⟨ih0, ih1, ih2, ih3, ih4, ih5, ih6, ih7, ih8, ih9⟩ := ih
    refine ⟨fun o v p i n ho hR hc hok => ?_, fun o v p i0 i n ho hR hc hi hv hok => ?_, fun o v p i n ho hR hc hok => ?_, fun o v p i0 i n ho hR hc hi hv hok => ?_, fun o v p i n ho hR hc hok => ?_, fun o v p i n ho hR hc hok => ?_, fun o v p i0 i n ho hR hc hi hv hok => ?_, fun o v p i n ho hR hc hok => ?_, fun o v p i0 i n ho hR hc hi hv hok => ?_, fun o v p i n ho hR hc hok => ?_⟩
    · rw [pT_0] at hok ⊢
      refine pw_aload_n dX6_tongueAny_0 0 rfl rfl ?_
      refine pw_callV0 zmM_X6_tongueEach rfl (lw_V q2292 q2294 qs82 q150 q2295) rfl (ts_this hM) zc_X6 (ih2 o (vK 0) p i n ho hR hc (pOk_B hok)) (by omega) (Nat.le_refl _) (Nat.le_refl _) rfl (Nat.le_of_ble_eq_true rfl) (Nat.le_of_ble_eq_true rfl) dX6_tongueAny_1 (by intros; rintro ⟨h, _⟩; cases h) (fun v1 g1 n1 h1 => ?_)
      obtain ⟨h1, rfl, hf1, hk1, hr⟩ := h1
      cases h1
      cases hrr : pT b N f 2 o (vK 0) p with
      | inl e =>
        rw [hrr] at hr
        refine pw_aload_n dX6_tongueAny_4 0 rfl rfl ?_
        refine pw_bipush (v := 15) dX6_tongueAny_5 (by decide) ?_
        refine pw_bipush (v := 18) dX6_tongueAny_7 (by decide) ?_
        refine pw_iconst (v := 0) dX6_tongueAny_9 (by decide) ?_
        refine pw_iconst (v := 0) dX6_tongueAny_10 (by decide) ?_
        refine pw_iconst (v := 0) dX6_tongueAny_11 (by decide) ?_
        refine pw_iconst (v := 0) dX6_tongueAny_12 (by decide) ?_
        refine pw_callV6 zmM_X6_takes rfl (lw_V q2266 q2268 qs79 q150 q2269) rfl (ts_this hM) zc_X6 (t_takesF hM hr.ne _ _ _ _ _ _) (by omega) (Nat.le_refl _) (Nat.le_refl _) rfl (Nat.le_of_ble_eq_true rfl) (Nat.le_of_ble_eq_true rfl) dX6_tongueAny_13 zE.nx (zE_kk ?_)
        refine pw_if_eq 33 dX6_tongueAny_16 (by decide) (fun c_16 => ?_) (fun c_16 => ?_)
        · refine pw_vret rfl dX6_tongueAny_33 ?_
          exact tT.inl hf1 hk1 hr
        · exact absurd rfl c_16
      | inr q =>
        rw [hrr] at hr hok
        obtain ⟨hR1, j, hj1, hj2, hj3, hj4⟩ := hr
        have hc2 := hc.2
        exact pw_mono (fun _ _ _ h => h.tr hf1 hk1 (by omega)) (ih1 o q.1 q.2 i j n1 ho hR1 ⟨hj3, by omega⟩ hj1 hj4 hok)
    · rw [pT_1] at hok ⊢
      refine pw_aload_n dX6_tongueAny_4 0 rfl rfl ?_
      refine pw_bipush (v := 15) dX6_tongueAny_5 (by decide) ?_
      refine pw_bipush (v := 18) dX6_tongueAny_7 (by decide) ?_
      refine pw_iconst (v := 0) dX6_tongueAny_9 (by decide) ?_
      refine pw_iconst (v := 0) dX6_tongueAny_10 (by decide) ?_
      refine pw_iconst (v := 0) dX6_tongueAny_11 (by decide) ?_
      refine pw_iconst (v := 0) dX6_tongueAny_12 (by decide) ?_
      refine pw_callV6 zmM_X6_takes rfl (lw_V q2266 q2268 qs79 q150 q2269) rfl (ts_this hM) zc_X6 (t_takes hM hR wOr (by decide)) (by omega) (Nat.le_refl _) (Nat.le_refl _) rfl (Nat.le_of_ble_eq_true rfl) (Nat.le_of_ble_eq_true rfl) dX6_tongueAny_13 (by intros; rintro ⟨h, _⟩; cases h) (fun v1 g1 n1 h1 => ?_)
      obtain ⟨h1, rfl, hR1, hf1⟩ := h1; cases h1
      have hv1 := hv.r hi hf1
      have hc1 : zfi n1 aT tf_readCodes = nI i := (rc_k hf1).trans hc.1
      have hge := skp_ge b N p
      have hc2 := hc.2
      refine pw_if_eq_B 33 dX6_tongueAny_16 (by decide) (fun c_16 => ?_) (fun c_16 => ?_)
      · refine pw_vret rfl dX6_tongueAny_33 ?_
        rw [if_neg c_16]; unfold aftW at hR1; rw [if_neg c_16] at hR1; exact tT.inr (rtF hf1) (fun k _ j => rw_k hf1 k j) hR1 hi (by omega) hc1 hv1
      · rw [if_pos c_16] at hok ⊢
        unfold aftW at hR1
        rw [if_pos c_16] at hR1
        replace hR1 : TRd n1 b N (skp b N p + 2) o := hR1
        refine pw_aload_n dX6_tongueAny_19 0 rfl rfl ?_
        refine pw_callV0 zmM_X6_tongueEach rfl (lw_V q2292 q2294 qs82 q150 q2295) rfl (ts_this hM) zc_X6 (ih2 o (vK 0) _ i n1 ho hR1 ⟨hc1, by omega⟩ (pOk_B hok)) (by omega) (Nat.le_refl _) (Nat.le_refl _) rfl (Nat.le_of_ble_eq_true rfl) (Nat.le_of_ble_eq_true rfl) dX6_tongueAny_20 (by intros; rintro ⟨h, _⟩; cases h) (fun v2 g2 n2 h2 => ?_)
        obtain ⟨h2, rfl, hf2, hk2, hr⟩ := h2
        cases h2
        have hf3 := (rtF hf1).tr hf2
        have hk3 : ∀ k, k < i0 → ∀ j, zai n2 (at_readCode + 1 + k) j = zai n (at_readCode + 1 + k) j := fun k h j => (hk2 k (by omega) j).trans (rw_k hf1 k j)
        cases hrr : pT b N f 2 o (vK 0) (skp b N p + 2) with
        | inl e =>
          rw [hrr] at hr
          refine pw_aload_n dX6_tongueAny_23 0 rfl rfl ?_
          refine pw_bipush (v := 10) dX6_tongueAny_24 (by decide) ?_
          refine pw_iconst (v := 0) dX6_tongueAny_26 (by decide) ?_
          refine pw_callV2 zmM_X6_says rfl (lw_V q2300 q2302 qs84 q150 q2303) rfl (ts_this hM) zc_X6 (t_saysF hM hr.ne _ _) (by omega) (Nat.le_refl _) (Nat.le_refl _) rfl (Nat.le_of_ble_eq_true rfl) (Nat.le_of_ble_eq_true rfl) dX6_tongueAny_27 zE.nx (zE_kk ?_)
          refine pw_goto 4 dX6_tongueAny_30 (by decide) ?_
          clear hok c_16
          refine pw_aload_n dX6_tongueAny_4 0 rfl rfl ?_
          refine pw_bipush (v := 15) dX6_tongueAny_5 (by decide) ?_
          refine pw_bipush (v := 18) dX6_tongueAny_7 (by decide) ?_
          refine pw_iconst (v := 0) dX6_tongueAny_9 (by decide) ?_
          refine pw_iconst (v := 0) dX6_tongueAny_10 (by decide) ?_
          refine pw_iconst (v := 0) dX6_tongueAny_11 (by decide) ?_
          refine pw_iconst (v := 0) dX6_tongueAny_12 (by decide) ?_
          refine pw_callV6 zmM_X6_takes rfl (lw_V q2266 q2268 qs79 q150 q2269) rfl (ts_this hM) zc_X6 (t_takesF hM hr.ne _ _ _ _ _ _) (by omega) (Nat.le_refl _) (Nat.le_refl _) rfl (Nat.le_of_ble_eq_true rfl) (Nat.le_of_ble_eq_true rfl) dX6_tongueAny_13 zE.nx (zE_kk ?_)
          refine pw_if_eq 33 dX6_tongueAny_16 (by decide) (fun c_16 => ?_) (fun c_16 => ?_)
          · refine pw_vret rfl dX6_tongueAny_33 ?_
            exact tT.inl hf3 hk3 hr
          · exact absurd rfl c_16
        | inr q =>
          rw [hrr] at hr hok
          obtain ⟨hR2, j, hj1, hj2, hj3, hj4⟩ := hr
          have hq2 := hR2.2.2.2.2.1
          have hv2 := hv1.cg hi hk2
          refine pw_aload_n dX6_tongueAny_23 0 rfl rfl ?_
          refine pw_bipush (v := 10) dX6_tongueAny_24 (by decide) ?_
          refine pw_iconst (v := 0) dX6_tongueAny_26 (by decide) ?_
          refine pw_callV2 zmM_X6_says rfl (lw_V q2300 q2302 qs84 q150 q2303) rfl (ts_this hM) zc_X6 (t_says hM hR2.2.1 j hj3 (by omega) _ _) (by omega) (Nat.le_refl _) (Nat.le_refl _) rfl (Nat.le_of_ble_eq_true rfl) (Nat.le_of_ble_eq_true rfl) dX6_tongueAny_27 zE.nx (zE_kk ?_)
          refine pw_goto 4 dX6_tongueAny_30 (by decide) ?_
          exact pw_mono (fun _ _ _ h => h.tr (hf3.tr (sy_ft (show j < 220 by omega))) (fun k h k2 => (sy_o n2 j 10 0 k (by omega) k2).trans (hk3 k h k2)) (by omega)) (ih1 o (vB 10 v q.1) q.2 i0 (j + 1) _ ho (hR2.s (sy_fr (by omega))) ⟨rfl, by omega⟩ (by omega) (hv2.bin hj4 hi hj1 (by decide)) hok)
    · rw [pT_2] at hok ⊢
      refine pw_aload_n dX6_tongueEach_0 0 rfl rfl ?_
      refine pw_callV0 zmM_X6_tongueOne rfl (lw_V q2296 q2298 qs83 q150 q2299) rfl (ts_this hM) zc_X6 (ih4 o (vK 0) p i n ho hR hc (pOk_B hok)) (by omega) (Nat.le_refl _) (Nat.le_refl _) rfl (Nat.le_of_ble_eq_true rfl) (Nat.le_of_ble_eq_true rfl) dX6_tongueEach_1 (by intros; rintro ⟨h, _⟩; cases h) (fun v1 g1 n1 h1 => ?_)
      obtain ⟨h1, rfl, hf1, hk1, hr⟩ := h1
      cases h1
      cases hrr : pT b N f 4 o (vK 0) p with
      | inl e =>
        rw [hrr] at hr
        refine pw_aload_n dX6_tongueEach_4 0 rfl rfl ?_
        refine pw_iconst (v := 1) dX6_tongueEach_5 (by decide) ?_
        refine pw_bipush (v := 14) dX6_tongueEach_6 (by decide) ?_
        refine pw_iconst (v := 4) dX6_tongueEach_8 (by decide) ?_
        refine pw_iconst (v := 0) dX6_tongueEach_9 (by decide) ?_
        refine pw_iconst (v := 0) dX6_tongueEach_10 (by decide) ?_
        refine pw_iconst (v := 0) dX6_tongueEach_11 (by decide) ?_
        refine pw_callV6 zmM_X6_takes rfl (lw_V q2266 q2268 qs79 q150 q2269) rfl (ts_this hM) zc_X6 (t_takesF hM hr.ne _ _ _ _ _ _) (by omega) (Nat.le_refl _) (Nat.le_refl _) rfl (Nat.le_of_ble_eq_true rfl) (Nat.le_of_ble_eq_true rfl) dX6_tongueEach_12 zE.nx (zE_kk ?_)
        refine pw_if_eq 32 dX6_tongueEach_15 (by decide) (fun c_15 => ?_) (fun c_15 => ?_)
        · refine pw_vret rfl dX6_tongueEach_32 ?_
          exact tT.inl hf1 hk1 hr
        · exact absurd rfl c_15
      | inr q =>
        rw [hrr] at hr hok
        obtain ⟨hR1, j, hj1, hj2, hj3, hj4⟩ := hr
        have hc2 := hc.2
        exact pw_mono (fun _ _ _ h => h.tr hf1 hk1 (by omega)) (ih3 o q.1 q.2 i j n1 ho hR1 ⟨hj3, by omega⟩ hj1 hj4 hok)
    · rw [pT_3] at hok ⊢
      refine pw_aload_n dX6_tongueEach_4 0 rfl rfl ?_
      refine pw_iconst (v := 1) dX6_tongueEach_5 (by decide) ?_
      refine pw_bipush (v := 14) dX6_tongueEach_6 (by decide) ?_
      refine pw_iconst (v := 4) dX6_tongueEach_8 (by decide) ?_
      refine pw_iconst (v := 0) dX6_tongueEach_9 (by decide) ?_
      refine pw_iconst (v := 0) dX6_tongueEach_10 (by decide) ?_
      refine pw_iconst (v := 0) dX6_tongueEach_11 (by decide) ?_
      refine pw_callV6 zmM_X6_takes rfl (lw_V q2266 q2268 qs79 q150 q2269) rfl (ts_this hM) zc_X6 (t_takes hM hR wAnd (by decide)) (by omega) (Nat.le_refl _) (Nat.le_refl _) rfl (Nat.le_of_ble_eq_true rfl) (Nat.le_of_ble_eq_true rfl) dX6_tongueEach_12 (by intros; rintro ⟨h, _⟩; cases h) (fun v1 g1 n1 h1 => ?_)
      obtain ⟨h1, rfl, hR1, hf1⟩ := h1; cases h1
      have hv1 := hv.r hi hf1
      have hc1 : zfi n1 aT tf_readCodes = nI i := (rc_k hf1).trans hc.1
      have hge := skp_ge b N p
      have hc2 := hc.2
      refine pw_if_eq_B 32 dX6_tongueEach_15 (by decide) (fun c_15 => ?_) (fun c_15 => ?_)
      · refine pw_vret rfl dX6_tongueEach_32 ?_
        rw [if_neg c_15]; unfold aftW at hR1; rw [if_neg c_15] at hR1; exact tT.inr (rtF hf1) (fun k _ j => rw_k hf1 k j) hR1 hi (by omega) hc1 hv1
      · rw [if_pos c_15] at hok ⊢
        unfold aftW at hR1
        rw [if_pos c_15] at hR1
        replace hR1 : TRd n1 b N (skp b N p + 3) o := hR1
        refine pw_aload_n dX6_tongueEach_18 0 rfl rfl ?_
        refine pw_callV0 zmM_X6_tongueOne rfl (lw_V q2296 q2298 qs83 q150 q2299) rfl (ts_this hM) zc_X6 (ih4 o (vK 0) _ i n1 ho hR1 ⟨hc1, by omega⟩ (pOk_B hok)) (by omega) (Nat.le_refl _) (Nat.le_refl _) rfl (Nat.le_of_ble_eq_true rfl) (Nat.le_of_ble_eq_true rfl) dX6_tongueEach_19 (by intros; rintro ⟨h, _⟩; cases h) (fun v2 g2 n2 h2 => ?_)
        obtain ⟨h2, rfl, hf2, hk2, hr⟩ := h2
        cases h2
        have hf3 := (rtF hf1).tr hf2
        have hk3 : ∀ k, k < i0 → ∀ j, zai n2 (at_readCode + 1 + k) j = zai n (at_readCode + 1 + k) j := fun k h j => (hk2 k (by omega) j).trans (rw_k hf1 k j)
        cases hrr : pT b N f 4 o (vK 0) (skp b N p + 3) with
        | inl e =>
          rw [hrr] at hr
          refine pw_aload_n dX6_tongueEach_22 0 rfl rfl ?_
          refine pw_bipush (v := 9) dX6_tongueEach_23 (by decide) ?_
          refine pw_iconst (v := 0) dX6_tongueEach_25 (by decide) ?_
          refine pw_callV2 zmM_X6_says rfl (lw_V q2300 q2302 qs84 q150 q2303) rfl (ts_this hM) zc_X6 (t_saysF hM hr.ne _ _) (by omega) (Nat.le_refl _) (Nat.le_refl _) rfl (Nat.le_of_ble_eq_true rfl) (Nat.le_of_ble_eq_true rfl) dX6_tongueEach_26 zE.nx (zE_kk ?_)
          refine pw_goto 4 dX6_tongueEach_29 (by decide) ?_
          clear hok c_15
          refine pw_aload_n dX6_tongueEach_4 0 rfl rfl ?_
          refine pw_iconst (v := 1) dX6_tongueEach_5 (by decide) ?_
          refine pw_bipush (v := 14) dX6_tongueEach_6 (by decide) ?_
          refine pw_iconst (v := 4) dX6_tongueEach_8 (by decide) ?_
          refine pw_iconst (v := 0) dX6_tongueEach_9 (by decide) ?_
          refine pw_iconst (v := 0) dX6_tongueEach_10 (by decide) ?_
          refine pw_iconst (v := 0) dX6_tongueEach_11 (by decide) ?_
          refine pw_callV6 zmM_X6_takes rfl (lw_V q2266 q2268 qs79 q150 q2269) rfl (ts_this hM) zc_X6 (t_takesF hM hr.ne _ _ _ _ _ _) (by omega) (Nat.le_refl _) (Nat.le_refl _) rfl (Nat.le_of_ble_eq_true rfl) (Nat.le_of_ble_eq_true rfl) dX6_tongueEach_12 zE.nx (zE_kk ?_)
          refine pw_if_eq 32 dX6_tongueEach_15 (by decide) (fun c_15 => ?_) (fun c_15 => ?_)
          · refine pw_vret rfl dX6_tongueEach_32 ?_
            exact tT.inl hf3 hk3 hr
          · exact absurd rfl c_15
        | inr q =>
          rw [hrr] at hr hok
          obtain ⟨hR2, j, hj1, hj2, hj3, hj4⟩ := hr
          have hq2 := hR2.2.2.2.2.1
          have hv2 := hv1.cg hi hk2
          refine pw_aload_n dX6_tongueEach_22 0 rfl rfl ?_
          refine pw_bipush (v := 9) dX6_tongueEach_23 (by decide) ?_
          refine pw_iconst (v := 0) dX6_tongueEach_25 (by decide) ?_
          refine pw_callV2 zmM_X6_says rfl (lw_V q2300 q2302 qs84 q150 q2303) rfl (ts_this hM) zc_X6 (t_says hM hR2.2.1 j hj3 (by omega) _ _) (by omega) (Nat.le_refl _) (Nat.le_refl _) rfl (Nat.le_of_ble_eq_true rfl) (Nat.le_of_ble_eq_true rfl) dX6_tongueEach_26 zE.nx (zE_kk ?_)
          refine pw_goto 4 dX6_tongueEach_29 (by decide) ?_
          exact pw_mono (fun _ _ _ h => h.tr (hf3.tr (sy_ft (show j < 220 by omega))) (fun k h k2 => (sy_o n2 j 9 0 k (by omega) k2).trans (hk3 k h k2)) (by omega)) (ih3 o (vB 9 v q.1) q.2 i0 (j + 1) _ ho (hR2.s (sy_fr (by omega))) ⟨rfl, by omega⟩ (by omega) (hv2.bin hj4 hi hj1 (by decide)) hok)
    · rw [pT_4] at hok ⊢
      refine pw_aload_n dX6_tongueOne_0 0 rfl rfl ?_
      refine pw_geti 5 zc_X6 (ts_this hM) (by decide) q1991 (Or.inl rfl) dX6_tongueOne_1 ?_
      refine pw_if_eq 8 dX6_tongueOne_4 (by decide) (fun c_4 => ?_) (fun c_4 => ?_)
      · refine pw_aload_n dX6_tongueOne_8 0 rfl rfl ?_
        refine pw_callV0 zmM_X6_blanks rfl (lw_V q2196 q2198 qs64 q150 q2199) rfl (ts_this hM) zc_X6 (t_blk hM hR) (by omega) (Nat.le_refl _) (Nat.le_refl _) rfl (Nat.le_of_ble_eq_true rfl) (Nat.le_of_ble_eq_true rfl) dX6_tongueOne_9 (by intros; rintro ⟨h, _⟩; cases h) (fun v0 g0 n0 h0 => ?_)
        obtain ⟨h0, rfl, hR0, hf0⟩ := h0; cases h0
        have hsk := skp_skp b N p
        have hge := skp_ge b N p
        have hc2 := hc.2
        generalize skp b N p = q at hok hR0 hsk hge ⊢
        replace hR0 : TRd n0 b N q o := hR0
        refine pw_aload_n dX6_tongueOne_12 0 rfl rfl ?_
        refine pw_bipush (v := 14) dX6_tongueOne_13 (by decide) ?_
        refine pw_bipush (v := 15) dX6_tongueOne_15 (by decide) ?_
        refine pw_bipush (v := 20) dX6_tongueOne_17 (by decide) ?_
        refine pw_iconst (v := 0) dX6_tongueOne_19 (by decide) ?_
        refine pw_iconst (v := 0) dX6_tongueOne_20 (by decide) ?_
        refine pw_iconst (v := 0) dX6_tongueOne_21 (by decide) ?_
        refine pw_callV6 zmM_X6_isWord rfl (lw_V q2212 q2214 qs68 q150 q2215) rfl (ts_this hM) zc_X6 (t_isWord hM hR0 wNot (by decide)) (by omega) (Nat.le_refl _) (Nat.le_refl _) rfl (Nat.le_of_ble_eq_true rfl) (Nat.le_of_ble_eq_true rfl) dX6_tongueOne_22 (by intros; rintro ⟨h, _⟩; cases h) (fun v1 g1 n1 h1 => ?_)
        obtain ⟨h1, rfl, hR1, hf1⟩ := h1; cases h1
        rw [hsk] at hR1 ⊢
        have hf1 := hf0.tr hf1
        have hc1 : zfi n1 aT tf_readCodes = nI i := (rc_k hf1).trans hc.1
        have hk1 : ∀ k, k < i → ∀ j, zai n1 (at_readCode + 1 + k) j = zai n (at_readCode + 1 + k) j := fun k _ j => rw_k hf1 k j
        have hX := hR1.1; have hqN := hR1.2.2.2.2.1
        unfold pTo at hok ⊢
        refine pw_if_eq_B 62 dX6_tongueOne_25 (by decide) (fun c_25 => ?_) (fun c_25 => ?_)
        · refine pw_aload_n dX6_tongueOne_62 0 rfl rfl ?_
          refine pw_aload_n dX6_tongueOne_63 0 rfl rfl ?_
          refine pw_geti 4 zc_X6 (ts_this hM) (by decide) q1990 (Or.inl rfl) dX6_tongueOne_64 ?_
          rw [hR1.2.2.1]
          refine pw_callV1 zmM_X6_byteAt rfl (lw_V q2200 q2202 qs65 q150 q2203) rfl (ts_this hM) zc_X6 (t_byteAt hM hX q (by have := hX.2.1; omega)) (by omega) (Nat.le_refl _) (Nat.le_refl _) rfl (Nat.le_of_ble_eq_true rfl) (Nat.le_of_ble_eq_true rfl) dX6_tongueOne_67 zE.nx (zE_kk ?_)
          refine pw_bipush (v := 91) dX6_tongueOne_70 (by decide) ?_
          refine pw_icmp_ne 114 dX6_tongueOne_72 (by decide) (fun c_72 => ?_) (fun c_72 => ?_)
          · rw [if_neg c_25, if_neg (fun z => c_72 ((tv_eq (c := 91) hX (by decide)).mpr z))] at hok ⊢
            refine pw_aload_n dX6_tongueOne_114 0 rfl rfl ?_
            refine pw_callV0 zmM_X6_sum rfl (lw_V q2304 q2306 qs85 q150 q2307) rfl (ts_this hM) zc_X6 (ih5 o (vK 0) q i n1 ho hR1 ⟨hc1, by omega⟩ (pOk_B hok)) (by omega) (Nat.le_refl _) (Nat.le_refl _) rfl (Nat.le_of_ble_eq_true rfl) (Nat.le_of_ble_eq_true rfl) dX6_tongueOne_115 (by intros; rintro ⟨h, _⟩; cases h) (fun v2 g2 n2 h2 => ?_)
            obtain ⟨h2, rfl, hf2, hk2, hr⟩ := h2
            cases h2
            have hf3 := (rtF hf1).tr hf2
            have hk3 : ∀ k, k < i → ∀ j, zai n2 (at_readCode + 1 + k) j = zai n (at_readCode + 1 + k) j := fun k h j => (hk2 k h j).trans (hk1 k h j)
            cases hrr : pT b N f 5 o (vK 0) q with
            | inl e =>
              rw [hrr] at hr
              refine pw_aload_n dX6_tongueOne_118 0 rfl rfl ?_
              refine pw_bipush (v := 60) dX6_tongueOne_119 (by decide) ?_
              refine pw_callV1 zmM_X6_takesSign rfl (lw_V q2320 q2322 qs89 q150 q2323) rfl (ts_this hM) zc_X6 (t_takesSignF hM hr.ne _) (by omega) (Nat.le_refl _) (Nat.le_refl _) rfl (Nat.le_of_ble_eq_true rfl) (Nat.le_of_ble_eq_true rfl) dX6_tongueOne_121 zE.nx (zE_kk ?_)
              refine pw_if_eq 131 dX6_tongueOne_124 (by decide) (fun c_124 => ?_) (fun c_124 => ?_)
              · refine pw_aload_n dX6_tongueOne_131 0 rfl rfl ?_
                refine pw_bipush (v := 62) dX6_tongueOne_132 (by decide) ?_
                refine pw_callV1 zmM_X6_takesSign rfl (lw_V q2320 q2322 qs89 q150 q2323) rfl (ts_this hM) zc_X6 (t_takesSignF hM hr.ne _) (by omega) (Nat.le_refl _) (Nat.le_refl _) rfl (Nat.le_of_ble_eq_true rfl) (Nat.le_of_ble_eq_true rfl) dX6_tongueOne_134 zE.nx (zE_kk ?_)
                refine pw_if_eq 145 dX6_tongueOne_137 (by decide) (fun c_137 => ?_) (fun c_137 => ?_)
                · refine pw_aload_n dX6_tongueOne_145 0 rfl rfl ?_
                  refine pw_bipush (v := 61) dX6_tongueOne_146 (by decide) ?_
                  refine pw_callV1 zmM_X6_takesSign rfl (lw_V q2320 q2322 qs89 q150 q2323) rfl (ts_this hM) zc_X6 (t_takesSignF hM hr.ne _) (by omega) (Nat.le_refl _) (Nat.le_refl _) rfl (Nat.le_of_ble_eq_true rfl) (Nat.le_of_ble_eq_true rfl) dX6_tongueOne_148 zE.nx (zE_kk ?_)
                  refine pw_if_eq 159 dX6_tongueOne_151 (by decide) (fun c_151 => ?_) (fun c_151 => ?_)
                  · refine pw_iconst (v := (-1)) dX6_tongueOne_159 (by decide) ?_
                    refine pw_istore_n (ls' := [(1, _), (0, _)]) dX6_tongueOne_160 rfl (by decide) rfl ?_
                    refine pw_ls [1, 0] (ls' := [(0, _), (1, _)]) rfl ?_
                    refine pw_iload_n dX6_tongueOne_161 1 rfl rfl ?_
                    refine pw_iconst (v := (-1)) dX6_tongueOne_162 (by decide) ?_
                    refine pw_icmp_ne 175 dX6_tongueOne_163 (by decide) (fun c_163 => ?_) (fun c_163 => ?_)
                    · exact absurd rfl c_163
                    · refine pw_aload_n dX6_tongueOne_166 0 rfl rfl ?_
                      refine pw_iconst (v := 1) dX6_tongueOne_167 (by decide) ?_
                      refine pw_aload_n dX6_tongueOne_168 0 rfl rfl ?_
                      refine pw_geti 4 zc_X6 (ts_this hM) (by decide) q1990 (Or.inl rfl) dX6_tongueOne_169 ?_
                      refine pw_callV2 zmM_X6_wrong rfl (lw_V q2226 q2228 qs70 q150 q2229) rfl (ts_this hM) zc_X6 (t_wrongF hM _ _ hr.ne) (by omega) (Nat.le_refl _) (Nat.le_refl _) rfl (Nat.le_of_ble_eq_true rfl) (Nat.le_of_ble_eq_true rfl) dX6_tongueOne_172 zE.nx (zE_kk ?_)
                      refine pw_aload_n dX6_tongueOne_175 0 rfl rfl ?_
                      refine pw_callV0 zmM_X6_sum rfl (lw_V q2304 q2306 qs85 q150 q2307) rfl (ts_this hM) zc_X6 (t_sumF hM hr.ne) (by omega) (Nat.le_refl _) (Nat.le_refl _) rfl (Nat.le_of_ble_eq_true rfl) (Nat.le_of_ble_eq_true rfl) dX6_tongueOne_176 zE.nx (zE_kk ?_)
                      refine pw_aload_n dX6_tongueOne_179 0 rfl rfl ?_
                      refine pw_iload_n dX6_tongueOne_180 1 rfl rfl ?_
                      refine pw_iconst (v := 0) dX6_tongueOne_181 (by decide) ?_
                      refine pw_callV2 zmM_X6_says rfl (lw_V q2300 q2302 qs84 q150 q2303) rfl (ts_this hM) zc_X6 (t_saysF hM hr.ne _ _) (by omega) (Nat.le_refl _) (Nat.le_refl _) rfl (Nat.le_of_ble_eq_true rfl) (Nat.le_of_ble_eq_true rfl) dX6_tongueOne_182 zE.nx (zE_kk ?_)
                      refine pw_vret rfl dX6_tongueOne_185 ?_
                      exact tT.inl hf3 hk3 hr
                  · exact absurd rfl c_151
                · exact absurd rfl c_137
              · exact absurd rfl c_124
            | inr z =>
              rw [hrr, pB_r] at hok
              rw [hrr] at hr
              obtain ⟨hR2, j, hj1, hj2, hj3, hj4⟩ := hr
              rw [pB_r]
              have hzk := skp_skp b N z.2
              have hzg := skp_ge b N z.2
              -- what follows a sign that there is
              have h160 : ∀ (w : Nat) (n3 : zg_N), pHow (tb b N (skp b N z.2)) = w → ¬ w = 0 → TRd n3 b N (skp b N z.2 + 1) o → zFr rF rA n2 n3 →
                  PW zm_X6_tongueOne (3 * (6 - o) + 12) (tT g2 n b N o i i p (if pHow (tb b N (skp b N z.2)) = 0 then .inl (1, skp b N z.2) else pB (pT b N f 5 o (vK 0) (skp b N z.2 + 1)) (fun v p2 => .inr (vB (pHow (tb b N (skp b N z.2))) z.1 v, p2)))) 0 0 160 [(0, .ref aT)] [.int (nI w)] g2 n3 := by
                intro w n3 hw hw0 hR3 hf4
                rw [if_neg (by rw [hw]; exact hw0)] at hok ⊢
                have hwr := (pHow_lt (by rw [hw]; exact hw0)).2
                rw [hw] at hwr ⊢
                refine pw_istore_n (ls' := [(1, _), (0, _)]) dX6_tongueOne_160 rfl (by decide) rfl ?_
                refine pw_ls [1, 0] (ls' := [(0, _), (1, _)]) rfl ?_
                refine pw_iload_n dX6_tongueOne_161 1 rfl rfl ?_
                refine pw_iconst (v := (-1)) dX6_tongueOne_162 (by decide) ?_
                refine pw_icmp_ne 175 dX6_tongueOne_163 (by decide) (fun c_163 => ?_) (fun c_163 => ?_)
                · refine pw_aload_n dX6_tongueOne_175 0 rfl rfl ?_
                  refine pw_callV0 zmM_X6_sum rfl (lw_V q2304 q2306 qs85 q150 q2307) rfl (ts_this hM) zc_X6 (ih5 o (vK 0) _ j n3 ho hR3 ⟨(rc_k hf4).trans hj3, by omega⟩ (pOk_B hok)) (by omega) (Nat.le_refl _) (Nat.le_refl _) rfl (Nat.le_of_ble_eq_true rfl) (Nat.le_of_ble_eq_true rfl) dX6_tongueOne_176 (by intros; rintro ⟨h, _⟩; cases h) (fun v5 g5 n5 h5 => ?_)
                  obtain ⟨h5, rfl, hf5, hk5, hr5⟩ := h5
                  cases h5
                  have hf6 := hf3.tr ((rtF hf4).tr hf5)
                  have hk6 : ∀ k, k < j → ∀ q, zai n5 (at_readCode + 1 + k) q = zai n2 (at_readCode + 1 + k) q := fun k h q => (hk5 k h q).trans (rw_k hf4 k q)
                  cases hr6 : pT b N f 5 o (vK 0) (skp b N z.2 + 1) with
                  | inl e =>
                    rw [hr6] at hr5
                    refine pw_aload_n dX6_tongueOne_179 0 rfl rfl ?_
                    refine pw_iload_n dX6_tongueOne_180 1 rfl rfl ?_
                    refine pw_iconst (v := 0) dX6_tongueOne_181 (by decide) ?_
                    refine pw_callV2 zmM_X6_says rfl (lw_V q2300 q2302 qs84 q150 q2303) rfl (ts_this hM) zc_X6 (t_saysF hM hr5.ne _ _) (by omega) (Nat.le_refl _) (Nat.le_refl _) rfl (Nat.le_of_ble_eq_true rfl) (Nat.le_of_ble_eq_true rfl) dX6_tongueOne_182 zE.nx (zE_kk ?_)
                    refine pw_vret rfl dX6_tongueOne_185 ?_
                    exact tT.inl hf6 (fun k h q => (hk6 k (by omega) q).trans (hk3 k h q)) hr5
                  | inr y =>
                    rw [hr6] at hr5
                    obtain ⟨hR5, j2, hj5, hj6, hj7, hj8⟩ := hr5
                    have hy2 := hR5.2.2.2.2.1
                    have hv5 := hj4.cg hj1 hk6
                    refine pw_aload_n dX6_tongueOne_179 0 rfl rfl ?_
                    refine pw_iload_n dX6_tongueOne_180 1 rfl rfl ?_
                    refine pw_iconst (v := 0) dX6_tongueOne_181 (by decide) ?_
                    refine pw_callV2 zmM_X6_says rfl (lw_V q2300 q2302 qs84 q150 q2303) rfl (ts_this hM) zc_X6 (t_says hM hR5.2.1 j2 hj7 (by omega) _ _) (by omega) (Nat.le_refl _) (Nat.le_refl _) rfl (Nat.le_of_ble_eq_true rfl) (Nat.le_of_ble_eq_true rfl) dX6_tongueOne_182 zE.nx (zE_kk ?_)
                    refine pw_vret rfl dX6_tongueOne_185 ?_
                    exact tT.inr (hf6.tr (sy_ft (show j2 < 220 by omega))) (fun k h q => (sy_o n5 j2 (nI w) 0 k (by omega) q).trans ((hk6 k (by omega) q).trans (hk3 k h q))) (hR5.s (sy_fr (by omega))) (by omega) (by omega) rfl (hv5.bin hj8 hj1 hj5 (by omega))
                · exact absurd c_163 (by rcases hwr with rfl | rfl | rfl <;> decide)
              refine pw_aload_n dX6_tongueOne_118 0 rfl rfl ?_
              refine pw_bipush (v := 60) dX6_tongueOne_119 (by decide) ?_
              refine pw_callV1 zmM_X6_takesSign rfl (lw_V q2320 q2322 qs89 q150 q2323) rfl (ts_this hM) zc_X6 (t_takesSign hM hR2 60 (by decide)) (by omega) (Nat.le_refl _) (Nat.le_refl _) rfl (Nat.le_of_ble_eq_true rfl) (Nat.le_of_ble_eq_true rfl) dX6_tongueOne_121 (by intros; rintro ⟨h, _⟩; cases h) (fun v5 g5 n5 h5 => ?_)
              obtain ⟨h5, rfl, hR5, hf5⟩ := h5; cases h5
              refine pw_if_eq_B 131 dX6_tongueOne_124 (by decide) (fun c_124 => ?_) (fun c_124 => ?_)
              · rw [if_neg c_124] at hR5
                refine pw_aload_n dX6_tongueOne_131 0 rfl rfl ?_
                refine pw_bipush (v := 62) dX6_tongueOne_132 (by decide) ?_
                refine pw_callV1 zmM_X6_takesSign rfl (lw_V q2320 q2322 qs89 q150 q2323) rfl (ts_this hM) zc_X6 (t_takesSign hM hR5 62 (by decide)) (by omega) (Nat.le_refl _) (Nat.le_refl _) rfl (Nat.le_of_ble_eq_true rfl) (Nat.le_of_ble_eq_true rfl) dX6_tongueOne_134 (by intros; rintro ⟨h, _⟩; cases h) (fun v6 g6 n6 h6 => ?_)
                obtain ⟨h6, rfl, hR6, hf6⟩ := h6; cases h6
                rw [hzk] at hR6 ⊢
                replace hf6 := hf5.tr hf6
                refine pw_if_eq_B 145 dX6_tongueOne_137 (by decide) (fun c_137 => ?_) (fun c_137 => ?_)
                · rw [if_neg c_137] at hR6
                  refine pw_aload_n dX6_tongueOne_145 0 rfl rfl ?_
                  refine pw_bipush (v := 61) dX6_tongueOne_146 (by decide) ?_
                  refine pw_callV1 zmM_X6_takesSign rfl (lw_V q2320 q2322 qs89 q150 q2323) rfl (ts_this hM) zc_X6 (t_takesSign hM hR6 61 (by decide)) (by omega) (Nat.le_refl _) (Nat.le_refl _) rfl (Nat.le_of_ble_eq_true rfl) (Nat.le_of_ble_eq_true rfl) dX6_tongueOne_148 (by intros; rintro ⟨h, _⟩; cases h) (fun v7 g7 n7 h7 => ?_)
                  obtain ⟨h7, rfl, hR7, hf7⟩ := h7; cases h7
                  rw [hzk] at hR7 ⊢
                  replace hf7 := hf6.tr hf7
                  refine pw_if_eq_B 159 dX6_tongueOne_151 (by decide) (fun c_151 => ?_) (fun c_151 => ?_)
                  · rw [if_neg c_151] at hR7
                    have hw := hR7.wr (k := 1) (q := skp b N z.2) (by decide) (by decide)
                    rw [if_pos (show pHow (tb b N (skp b N z.2)) = 0 by unfold pHow; rw [if_neg c_124, if_neg c_137, if_neg c_151])]
                    refine pw_iconst (v := (-1)) dX6_tongueOne_159 (by decide) ?_
                    refine pw_istore_n (ls' := [(1, _), (0, _)]) dX6_tongueOne_160 rfl (by decide) rfl ?_
                    refine pw_ls [1, 0] (ls' := [(0, _), (1, _)]) rfl ?_
                    refine pw_iload_n dX6_tongueOne_161 1 rfl rfl ?_
                    refine pw_iconst (v := (-1)) dX6_tongueOne_162 (by decide) ?_
                    refine pw_icmp_ne 175 dX6_tongueOne_163 (by decide) (fun c_163 => ?_) (fun c_163 => ?_)
                    · exact absurd rfl c_163
                    · refine pw_aload_n dX6_tongueOne_166 0 rfl rfl ?_
                      refine pw_iconst (v := 1) dX6_tongueOne_167 (by decide) ?_
                      refine pw_aload_n dX6_tongueOne_168 0 rfl rfl ?_
                      refine pw_geti 4 zc_X6 (ts_this hM) (by decide) q1990 (Or.inl rfl) dX6_tongueOne_169 ?_
                      rw [hR7.2.2.1]
                      refine pw_callV2 zmM_X6_wrong rfl (lw_V q2226 q2228 qs70 q150 q2229) rfl (ts_this hM) zc_X6 (t_wrong hM _ _ hR7.2.1) (by omega) (Nat.le_refl _) (Nat.le_refl _) rfl (Nat.le_of_ble_eq_true rfl) (Nat.le_of_ble_eq_true rfl) dX6_tongueOne_172 zE.nx (zE_kk ?_)
                      refine pw_aload_n dX6_tongueOne_175 0 rfl rfl ?_
                      refine pw_callV0 zmM_X6_sum rfl (lw_V q2304 q2306 qs85 q150 q2307) rfl (ts_this hM) zc_X6 (t_sumF hM hw.1.ne) (by omega) (Nat.le_refl _) (Nat.le_refl _) rfl (Nat.le_of_ble_eq_true rfl) (Nat.le_of_ble_eq_true rfl) dX6_tongueOne_176 zE.nx (zE_kk ?_)
                      refine pw_aload_n dX6_tongueOne_179 0 rfl rfl ?_
                      refine pw_iload_n dX6_tongueOne_180 1 rfl rfl ?_
                      refine pw_iconst (v := 0) dX6_tongueOne_181 (by decide) ?_
                      refine pw_callV2 zmM_X6_says rfl (lw_V q2300 q2302 qs84 q150 q2303) rfl (ts_this hM) zc_X6 (t_saysF hM hw.1.ne _ _) (by omega) (Nat.le_refl _) (Nat.le_refl _) rfl (Nat.le_of_ble_eq_true rfl) (Nat.le_of_ble_eq_true rfl) dX6_tongueOne_182 zE.nx (zE_kk ?_)
                      refine pw_vret rfl dX6_tongueOne_185 ?_
                      exact tT.inl (hf3.tr (rtF (hf7.tr hw.2))) (fun k h q => (rw_k (hf7.tr hw.2) k q).trans (hk3 k h q)) hw.1
                  · refine pw_bipush (v := 7) dX6_tongueOne_154 (by decide) ?_
                    refine pw_goto 160 dX6_tongueOne_156 (by decide) ?_
                    rw [if_pos c_151] at hR7
                    exact h160 7 n7 (by rw [c_151]; rfl) (by decide) hR7 hf7
                · refine pw_bipush (v := 6) dX6_tongueOne_140 (by decide) ?_
                  refine pw_goto 160 dX6_tongueOne_142 (by decide) ?_
                  rw [if_pos c_137] at hR6
                  exact h160 6 n6 (by rw [c_137]; rfl) (by decide) hR6 hf6
              · refine pw_iconst (v := 5) dX6_tongueOne_127 (by decide) ?_
                refine pw_goto 160 dX6_tongueOne_128 (by decide) ?_
                rw [if_pos c_124] at hR5
                exact h160 5 n5 (by rw [c_124]; rfl) (by decide) hR5 hf5
          · rw [if_neg c_25] at hok ⊢
            have h91 := (tv_eq (c := 91) hX (by decide)).mp c_72
            have hlt : q + 1 ≤ N := tb_lt (b := b) (by omega)
            rw [if_pos h91] at hok ⊢
            by_cases ho6 : o = 6
            · rw [if_pos ho6] at hok ⊢
              refine pw_aload_n dX6_tongueOne_75 0 rfl rfl ?_
              refine pw_callV0 zmM_X6_opens rfl (lw_V q2258 q2260 qs77 q150 q2261) rfl (ts_this hM) zc_X6 (t_opens6 hM hR1 ho6) (by omega) (Nat.le_refl _) (Nat.le_refl _) rfl (Nat.le_of_ble_eq_true rfl) (Nat.le_of_ble_eq_true rfl) dX6_tongueOne_76 (by intros; rintro ⟨h, _⟩; cases h) (fun v2 g2 n2 h2 => ?_)
              obtain ⟨h2, rfl, hF, hf2⟩ := h2; cases h2
              refine pw_if_ne 83 dX6_tongueOne_79 (by decide) (fun c_79 => ?_) (fun c_79 => ?_)
              · exact absurd rfl c_79
              · refine pw_vret rfl dX6_tongueOne_82 ?_
                exact tT.inl (rtF (hf1.tr hf2)) (fun k _ j => rw_k (hf1.tr hf2) k j) hF
            · rw [if_neg ho6] at hok ⊢
              refine pw_aload_n dX6_tongueOne_75 0 rfl rfl ?_
              refine pw_callV0 zmM_X6_opens rfl (lw_V q2258 q2260 qs77 q150 q2261) rfl (ts_this hM) zc_X6 (t_opens hM hR1 (by omega)) (by omega) (Nat.le_refl _) (Nat.le_refl _) rfl (Nat.le_of_ble_eq_true rfl) (Nat.le_of_ble_eq_true rfl) dX6_tongueOne_76 (by intros; rintro ⟨h, _⟩; cases h) (fun v2 g2 n2 h2 => ?_)
              obtain ⟨h2, rfl, hR2, hf2⟩ := h2; cases h2
              refine pw_if_ne 83 dX6_tongueOne_79 (by decide) (fun c_79 => ?_) (fun c_79 => ?_)
              · refine pw_aload_n dX6_tongueOne_83 0 rfl rfl ?_
                refine pw_dup dX6_tongueOne_84 rfl ?_
                refine pw_geti 4 zc_X6 (ts_this hM) (by decide) q1990 (Or.inl rfl) dX6_tongueOne_85 ?_
                rw [hR2.2.2.1]
                refine pw_iconst (v := 1) dX6_tongueOne_88 (by decide) ?_
                refine pw_iadd dX6_tongueOne_89 ?_
                rw [nI_1]
                refine pw_puti 4 zc_X6 (ts_this hM) (by decide) (by decide) q1990 rfl (Or.inl rfl) rfl rfl dX6_tongueOne_90 ?_
                have hR3 := hR2.at hlt
                have hf4 := hf1.tr (hf2.pfi (v := nI (q + 1)) rF_at)
                generalize zpfi n2 aT tf_at (nI (q + 1)) = n3 at hR3 hf4 ⊢
                refine pw_aload_n dX6_tongueOne_93 0 rfl rfl ?_
                refine pw_callV0 zmM_X6_tongueAny rfl (lw_V q2288 q2290 qs81 q150 q2291) rfl (ts_this hM) zc_X6 (ih0 (o + 1) (vK 0) _ i n3 (by omega) hR3 ⟨(rc_k hf4).trans hc.1, by omega⟩ (pOk_B hok)) (by omega) (Nat.le_refl _) (Nat.le_refl _) rfl (Nat.le_of_ble_eq_true rfl) (Nat.le_of_ble_eq_true rfl) dX6_tongueOne_94 (by intros; rintro ⟨h, _⟩; cases h) (fun v5 g5 n5 h5 => ?_)
                obtain ⟨h5, rfl, hf5, hk5, hr⟩ := h5
                cases h5
                have hf6 := (rtF hf4).tr hf5
                have hk6 : ∀ k, k < i → ∀ j, zai n5 (at_readCode + 1 + k) j = zai n (at_readCode + 1 + k) j := fun k h j => (hk5 k h j).trans (rw_k hf4 k j)
                cases hrr : pT b N f 0 (o + 1) (vK 0) (q + 1) with
                | inl e =>
                  rw [hrr] at hr
                  refine pw_aload_n dX6_tongueOne_97 0 rfl rfl ?_
                  refine pw_bipush (v := 93) dX6_tongueOne_98 (by decide) ?_
                  refine pw_callV1 zmM_X6_sign rfl (lw_V q2262 q2264 qs78 q150 q2265) rfl (ts_this hM) zc_X6 (t_signF hM hr.ne _) (by omega) (Nat.le_refl _) (Nat.le_refl _) rfl (Nat.le_of_ble_eq_true rfl) (Nat.le_of_ble_eq_true rfl) dX6_tongueOne_100 zE.nx (zE_kk ?_)
                  refine pw_aload_n dX6_tongueOne_103 0 rfl rfl ?_
                  refine pw_dup dX6_tongueOne_104 rfl ?_
                  refine pw_geti 8 zc_X6 (ts_this hM) (by decide) q1994 (Or.inl rfl) dX6_tongueOne_105 ?_
                  refine pw_iconst (v := 1) dX6_tongueOne_108 (by decide) ?_
                  refine pw_isub dX6_tongueOne_109 ?_
                  refine pw_puti 8 zc_X6 (ts_this hM) (by decide) (by decide) q1994 rfl (Or.inl rfl) rfl rfl dX6_tongueOne_110 ?_
                  refine pw_vret rfl dX6_tongueOne_113 ?_
                  exact tT.inl (hf6.pfi (Or.inl rF_op)) hk6 hr.op
                | inr z =>
                  rw [hrr] at hr
                  obtain ⟨hR5, j, hj1, hj2, hj3, hj4⟩ := hr
                  rw [pB_r, pNeed_u]
                  refine pw_aload_n dX6_tongueOne_97 0 rfl rfl ?_
                  refine pw_bipush (v := 93) dX6_tongueOne_98 (by decide) ?_
                  refine pw_callV1 zmM_X6_sign rfl (lw_V q2262 q2264 qs78 q150 q2265) rfl (ts_this hM) zc_X6 (t_sign hM hR5 93 (by decide)) (by omega) (Nat.le_refl _) (Nat.le_refl _) rfl (Nat.le_of_ble_eq_true rfl) (Nat.le_of_ble_eq_true rfl) dX6_tongueOne_100 rR.nx (fun v7 g7 n7 h7 => ?_)
                  obtain ⟨rfl, hf7, hr7⟩ := h7
                  have hf8 := hf6.tr (rtF hf7)
                  have hk8 : ∀ k, k < i → ∀ j, zai n7 (at_readCode + 1 + k) j = zai n (at_readCode + 1 + k) j := fun k h j => (rw_k hf7 k j).trans (hk6 k h j)
                  have hnf := pNeed_far b N 93 z.2 (by decide) ()
                  cases hr8 : pNeed b N 93 z.2 () with
                  | inl e =>
                    rw [hr8] at hr7
                    obtain ⟨⟨x, hx⟩, hF⟩ := hr7
                    cases hx
                    refine pw_aload_n dX6_tongueOne_103 0 rfl rfl ?_
                    refine pw_dup dX6_tongueOne_104 rfl ?_
                    refine pw_geti 8 zc_X6 (ts_this hM) (by decide) q1994 (Or.inl rfl) dX6_tongueOne_105 ?_
                    refine pw_iconst (v := 1) dX6_tongueOne_108 (by decide) ?_
                    refine pw_isub dX6_tongueOne_109 ?_
                    refine pw_puti 8 zc_X6 (ts_this hM) (by decide) (by decide) q1994 rfl (Or.inl rfl) rfl rfl dX6_tongueOne_110 ?_
                    refine pw_vret rfl dX6_tongueOne_113 ?_
                    exact tT.inl (hf8.pfi (Or.inl rF_op)) hk8 hF.op
                  | inr y =>
                    rw [hr8] at hr7 hnf
                    obtain ⟨hx, hR8⟩ := hr7
                    cases hx
                    have hn1 := hnf.1
                    refine pw_aload_n dX6_tongueOne_103 0 rfl rfl ?_
                    refine pw_dup dX6_tongueOne_104 rfl ?_
                    refine pw_geti 8 zc_X6 (ts_this hM) (by decide) q1994 (Or.inl rfl) dX6_tongueOne_105 ?_
                    rw [hR8.2.2.2.1]
                    refine pw_iconst (v := 1) dX6_tongueOne_108 (by decide) ?_
                    refine pw_isub dX6_tongueOne_109 ?_
                    rw [nI_pred]
                    refine pw_puti 8 zc_X6 (ts_this hM) (by decide) (by decide) q1994 rfl (Or.inl rfl) rfl rfl dX6_tongueOne_110 ?_
                    refine pw_vret rfl dX6_tongueOne_113 ?_
                    exact tT.inr (hf8.pfi (Or.inl rF_op)) hk8 hR8.op hj1 (by omega) ((rc_k hf7).trans hj3) ((hj4.r hj1 hf7).r hj1 (zFr.rf.pfi rF_op))
              · exact absurd c_79 (by decide)
        · rw [if_pos c_25] at hok ⊢
          by_cases ho6 : o = 6
          · rw [if_pos ho6] at hok ⊢
            refine pw_aload_n dX6_tongueOne_28 0 rfl rfl ?_
            refine pw_callV0 zmM_X6_opens rfl (lw_V q2258 q2260 qs77 q150 q2261) rfl (ts_this hM) zc_X6 (t_opens6 hM hR1 ho6) (by omega) (Nat.le_refl _) (Nat.le_refl _) rfl (Nat.le_of_ble_eq_true rfl) (Nat.le_of_ble_eq_true rfl) dX6_tongueOne_29 (by intros; rintro ⟨h, _⟩; cases h) (fun v2 g2 n2 h2 => ?_)
            obtain ⟨h2, rfl, hF, hf2⟩ := h2; cases h2
            refine pw_if_ne 36 dX6_tongueOne_32 (by decide) (fun c_32 => ?_) (fun c_32 => ?_)
            · exact absurd rfl c_32
            · refine pw_vret rfl dX6_tongueOne_35 ?_
              exact tT.inl (rtF (hf1.tr hf2)) (fun k _ j => rw_k (hf1.tr hf2) k j) hF
          · rw [if_neg ho6] at hok ⊢
            refine pw_aload_n dX6_tongueOne_28 0 rfl rfl ?_
            refine pw_callV0 zmM_X6_opens rfl (lw_V q2258 q2260 qs77 q150 q2261) rfl (ts_this hM) zc_X6 (t_opens hM hR1 (by omega)) (by omega) (Nat.le_refl _) (Nat.le_refl _) rfl (Nat.le_of_ble_eq_true rfl) (Nat.le_of_ble_eq_true rfl) dX6_tongueOne_29 (by intros; rintro ⟨h, _⟩; cases h) (fun v2 g2 n2 h2 => ?_)
            obtain ⟨h2, rfl, hR2, hf2⟩ := h2; cases h2
            refine pw_if_ne 36 dX6_tongueOne_32 (by decide) (fun c_32 => ?_) (fun c_32 => ?_)
            · refine pw_aload_n dX6_tongueOne_36 0 rfl rfl ?_
              refine pw_callV0 zmM_X6_skipWord rfl (lw_V q2234 q2236 qs72 q150 q2237) rfl (ts_this hM) zc_X6 (t_skw hM hR2) (by omega) (Nat.le_refl _) (Nat.le_refl _) rfl (Nat.le_of_ble_eq_true rfl) (Nat.le_of_ble_eq_true rfl) dX6_tongueOne_37 (by intros; rintro ⟨h, _⟩; cases h) (fun v3 g3 n3 h3 => ?_)
              obtain ⟨h3, rfl, hR3, hf3⟩ := h3; cases h3
              rw [c_25] at hR3
              replace hR3 : TRd n3 b N (q + 3) (o + 1) := hR3
              have hf4 := hf1.tr (hf2.tr hf3)
              refine pw_aload_n dX6_tongueOne_40 0 rfl rfl ?_
              refine pw_callV0 zmM_X6_tongueOne rfl (lw_V q2296 q2298 qs83 q150 q2299) rfl (ts_this hM) zc_X6 (ih4 (o + 1) (vK 0) _ i n3 (by omega) hR3 ⟨(rc_k hf4).trans hc.1, by omega⟩ (pOk_B hok)) (by omega) (Nat.le_refl _) (Nat.le_refl _) rfl (Nat.le_of_ble_eq_true rfl) (Nat.le_of_ble_eq_true rfl) dX6_tongueOne_41 (by intros; rintro ⟨h, _⟩; cases h) (fun v5 g5 n5 h5 => ?_)
              obtain ⟨h5, rfl, hf5, hk5, hr⟩ := h5
              cases h5
              have hf6 := (rtF hf4).tr hf5
              have hk6 : ∀ k, k < i → ∀ j, zai n5 (at_readCode + 1 + k) j = zai n (at_readCode + 1 + k) j := fun k h j => (hk5 k h j).trans (rw_k hf4 k j)
              cases hrr : pT b N f 4 (o + 1) (vK 0) (q + 3) with
              | inl e =>
                rw [hrr] at hr
                refine pw_aload_n dX6_tongueOne_44 0 rfl rfl ?_
                refine pw_bipush (v := 8) dX6_tongueOne_45 (by decide) ?_
                refine pw_iconst (v := 0) dX6_tongueOne_47 (by decide) ?_
                refine pw_callV2 zmM_X6_says rfl (lw_V q2300 q2302 qs84 q150 q2303) rfl (ts_this hM) zc_X6 (t_saysF hM hr.ne _ _) (by omega) (Nat.le_refl _) (Nat.le_refl _) rfl (Nat.le_of_ble_eq_true rfl) (Nat.le_of_ble_eq_true rfl) dX6_tongueOne_48 zE.nx (zE_kk ?_)
                refine pw_aload_n dX6_tongueOne_51 0 rfl rfl ?_
                refine pw_dup dX6_tongueOne_52 rfl ?_
                refine pw_geti 8 zc_X6 (ts_this hM) (by decide) q1994 (Or.inl rfl) dX6_tongueOne_53 ?_
                refine pw_iconst (v := 1) dX6_tongueOne_56 (by decide) ?_
                refine pw_isub dX6_tongueOne_57 ?_
                refine pw_puti 8 zc_X6 (ts_this hM) (by decide) (by decide) q1994 rfl (Or.inl rfl) rfl rfl dX6_tongueOne_58 ?_
                refine pw_vret rfl dX6_tongueOne_61 ?_
                exact tT.inl (hf6.pfi (Or.inl rF_op)) hk6 hr.op
              | inr z =>
                rw [hrr] at hr
                obtain ⟨hR5, j, hj1, hj2, hj3, hj4⟩ := hr
                have hz2 := hR5.2.2.2.2.1
                have hR6 := hR5.s (sy_fr (w := 8) (v := 0) (show j < 220 by omega))
                refine pw_aload_n dX6_tongueOne_44 0 rfl rfl ?_
                refine pw_bipush (v := 8) dX6_tongueOne_45 (by decide) ?_
                refine pw_iconst (v := 0) dX6_tongueOne_47 (by decide) ?_
                refine pw_callV2 zmM_X6_says rfl (lw_V q2300 q2302 qs84 q150 q2303) rfl (ts_this hM) zc_X6 (t_says hM hR5.2.1 j hj3 (by omega) _ _) (by omega) (Nat.le_refl _) (Nat.le_refl _) rfl (Nat.le_of_ble_eq_true rfl) (Nat.le_of_ble_eq_true rfl) dX6_tongueOne_48 zE.nx (zE_kk ?_)
                refine pw_aload_n dX6_tongueOne_51 0 rfl rfl ?_
                refine pw_dup dX6_tongueOne_52 rfl ?_
                refine pw_geti 8 zc_X6 (ts_this hM) (by decide) q1994 (Or.inl rfl) dX6_tongueOne_53 ?_
                rw [hR6.2.2.2.1]
                refine pw_iconst (v := 1) dX6_tongueOne_56 (by decide) ?_
                refine pw_isub dX6_tongueOne_57 ?_
                rw [nI_pred]
                refine pw_puti 8 zc_X6 (ts_this hM) (by decide) (by decide) q1994 rfl (Or.inl rfl) rfl rfl dX6_tongueOne_58 ?_
                refine pw_vret rfl dX6_tongueOne_61 ?_
                exact tT.inr ((hf6.tr (sy_ft (show j < 220 by omega))).pfi (Or.inl rF_op)) (fun k h k2 => (sy_o n5 j 8 0 k (by omega) k2).trans (hk6 k h k2)) hR6.op (Nat.le_succ_of_le hj1) (by omega) rfl ((hj4.not hj1).r (by omega) (zFr.rf.pfi rF_op))
            · exact absurd c_32 (by decide)
      · exact absurd hR.2.1 c_4
    · rw [pT_5] at hok ⊢
      refine pw_aload_n dX6_sum_0 0 rfl rfl ?_
      refine pw_callV0 zmM_X6_product rfl (lw_V q2308 q2310 qs86 q150 q2311) rfl (ts_this hM) zc_X6 (ih7 o (vK 0) p i n ho hR hc (pOk_B hok)) (by omega) (Nat.le_refl _) (Nat.le_refl _) rfl (Nat.le_of_ble_eq_true rfl) (Nat.le_of_ble_eq_true rfl) dX6_sum_1 (by intros; rintro ⟨h, _⟩; cases h) (fun v1 g1 n1 h1 => ?_)
      obtain ⟨h1, rfl, hf1, hk1, hr⟩ := h1
      cases h1
      cases hrr : pT b N f 7 o (vK 0) p with
      | inl e =>
        rw [hrr] at hr
        refine pw_aload_n dX6_sum_4 0 rfl rfl ?_
        refine pw_geti 5 zc_X6 (ts_this hM) (by decide) q1991 (Or.inl rfl) dX6_sum_5 ?_
        refine pw_if_ne 58 dX6_sum_8 (by decide) (fun c_8 => ?_) (fun c_8 => ?_)
        · refine pw_vret rfl dX6_sum_58 ?_
          exact tT.inl hf1 hk1 hr
        · exact absurd c_8 hr.ne
      | inr q =>
        rw [hrr] at hr hok
        obtain ⟨hR1, j, hj1, hj2, hj3, hj4⟩ := hr
        have hc2 := hc.2
        exact pw_mono (fun _ _ _ h => h.tr hf1 hk1 (by omega)) (ih6 o q.1 q.2 i j n1 ho hR1 ⟨hj3, by omega⟩ hj1 hj4 hok)
    · rw [pT_6] at hok ⊢
      have hzk := skp_skp b N p
      have hge := skp_ge b N p
      have hc2 := hc.2
      have h38 : ∀ (w : Nat) (n1 : zg_N), w = 2 ∨ w = 3 → pOk (pB (pT b N f 7 o (vK 0) (skp b N p + 1)) (fun u p1 => pT b N f 6 o (vB w v u) p1)) → TRd n1 b N (skp b N p + 1) o → zFr rF rA n n1 →
          PW zm_X6_sum (3 * (6 - o) + 10) (tT g n b N o i0 i p (pB (pT b N f 7 o (vK 0) (skp b N p + 1)) (fun u p1 => pT b N f 6 o (vB w v u) p1))) 0 0 38 [(0, .ref aT)] [.int (nI w)] g n1 := by
        intro w n1 hw hok hR1 hf1
        have hv1 := hv.r hi hf1
        have hc1 : zfi n1 aT tf_readCodes = nI i := (rc_k hf1).trans hc.1
        refine pw_istore_n (ls' := [(1, _), (0, _)]) dX6_sum_38 rfl (by decide) rfl ?_
        refine pw_ls [1, 0] (ls' := [(0, _), (1, _)]) rfl ?_
        refine pw_iload_n dX6_sum_39 1 rfl rfl ?_
        refine pw_iconst (v := (-1)) dX6_sum_40 (by decide) ?_
        refine pw_icmp_ne 45 dX6_sum_41 (by decide) (fun c_41 => ?_) (fun c_41 => ?_)
        · refine pw_aload_n dX6_sum_45 0 rfl rfl ?_
          refine pw_callV0 zmM_X6_product rfl (lw_V q2308 q2310 qs86 q150 q2311) rfl (ts_this hM) zc_X6 (ih7 o (vK 0) _ i n1 ho hR1 ⟨hc1, by omega⟩ (pOk_B hok)) (by omega) (Nat.le_refl _) (Nat.le_refl _) rfl (Nat.le_of_ble_eq_true rfl) (Nat.le_of_ble_eq_true rfl) dX6_sum_46 (by intros; rintro ⟨h, _⟩; cases h) (fun v2 g2 n2 h2 => ?_)
          obtain ⟨h2, rfl, hf2, hk2, hr⟩ := h2
          cases h2
          have hf3 := (rtF hf1).tr hf2
          have hk3 : ∀ k, k < i0 → ∀ j, zai n2 (at_readCode + 1 + k) j = zai n (at_readCode + 1 + k) j := fun k h j => (hk2 k (by omega) j).trans (rw_k hf1 k j)
          cases hrr : pT b N f 7 o (vK 0) (skp b N p + 1) with
          | inl e =>
            rw [hrr] at hr
            refine pw_aload_n dX6_sum_49 0 rfl rfl ?_
            refine pw_iload_n dX6_sum_50 1 rfl rfl ?_
            refine pw_iconst (v := 0) dX6_sum_51 (by decide) ?_
            refine pw_callV2 zmM_X6_says rfl (lw_V q2300 q2302 qs84 q150 q2303) rfl (ts_this hM) zc_X6 (t_saysF hM hr.ne _ _) (by omega) (Nat.le_refl _) (Nat.le_refl _) rfl (Nat.le_of_ble_eq_true rfl) (Nat.le_of_ble_eq_true rfl) dX6_sum_52 zE.nx (zE_kk ?_)
            refine pw_goto 4 dX6_sum_55 (by decide) ?_
            refine pw_ls [0] (ls' := [(0, _)]) rfl ?_
            clear hok
            refine pw_aload_n dX6_sum_4 0 rfl rfl ?_
            refine pw_geti 5 zc_X6 (ts_this hM) (by decide) q1991 (Or.inl rfl) dX6_sum_5 ?_
            refine pw_if_ne 58 dX6_sum_8 (by decide) (fun c_8 => ?_) (fun c_8 => ?_)
            · refine pw_vret rfl dX6_sum_58 ?_
              exact tT.inl hf3 hk3 hr
            · exact absurd c_8 hr.ne
          | inr q =>
            rw [hrr] at hr hok
            obtain ⟨hR2, j, hj1, hj2, hj3, hj4⟩ := hr
            have hq2 := hR2.2.2.2.2.1
            have hv2 := hv1.cg hi hk2
            refine pw_aload_n dX6_sum_49 0 rfl rfl ?_
            refine pw_iload_n dX6_sum_50 1 rfl rfl ?_
            refine pw_iconst (v := 0) dX6_sum_51 (by decide) ?_
            refine pw_callV2 zmM_X6_says rfl (lw_V q2300 q2302 qs84 q150 q2303) rfl (ts_this hM) zc_X6 (t_says hM hR2.2.1 j hj3 (by omega) _ _) (by omega) (Nat.le_refl _) (Nat.le_refl _) rfl (Nat.le_of_ble_eq_true rfl) (Nat.le_of_ble_eq_true rfl) dX6_sum_52 zE.nx (zE_kk ?_)
            refine pw_goto 4 dX6_sum_55 (by decide) ?_
            refine pw_ls [0] (ls' := [(0, _)]) rfl ?_
            exact pw_mono (fun _ _ _ h => h.tr (hf3.tr (sy_ft (show j < 220 by omega))) (fun k h k2 => (sy_o n2 j (nI w) 0 k (by omega) k2).trans (hk3 k h k2)) (by omega)) (ih6 o (vB w v q.1) q.2 i0 (j + 1) _ ho (hR2.s (sy_fr (by omega))) ⟨rfl, by omega⟩ (by omega) (hv2.bin hj4 hi hj1 (by omega)) hok)
        · exact absurd c_41 (by rcases hw with rfl | rfl <;> decide)
      refine pw_aload_n dX6_sum_4 0 rfl rfl ?_
      refine pw_geti 5 zc_X6 (ts_this hM) (by decide) q1991 (Or.inl rfl) dX6_sum_5 ?_
      refine pw_if_ne 58 dX6_sum_8 (by decide) (fun c_8 => ?_) (fun c_8 => ?_)
      · exact absurd hR.2.1 c_8
      · refine pw_aload_n dX6_sum_11 0 rfl rfl ?_
        refine pw_bipush (v := 43) dX6_sum_12 (by decide) ?_
        refine pw_callV1 zmM_X6_takesSign rfl (lw_V q2320 q2322 qs89 q150 q2323) rfl (ts_this hM) zc_X6 (t_takesSign hM hR 43 (by decide)) (by omega) (Nat.le_refl _) (Nat.le_refl _) rfl (Nat.le_of_ble_eq_true rfl) (Nat.le_of_ble_eq_true rfl) dX6_sum_14 (by intros; rintro ⟨h, _⟩; cases h) (fun v1 g1 n1 h1 => ?_)
        obtain ⟨h1, rfl, hR1, hf1⟩ := h1; cases h1
        refine pw_if_eq_B 24 dX6_sum_17 (by decide) (fun c_17 => ?_) (fun c_17 => ?_)
        · rw [if_neg c_17] at hok hR1 ⊢
          refine pw_aload_n dX6_sum_24 0 rfl rfl ?_
          refine pw_bipush (v := 45) dX6_sum_25 (by decide) ?_
          refine pw_callV1 zmM_X6_takesSign rfl (lw_V q2320 q2322 qs89 q150 q2323) rfl (ts_this hM) zc_X6 (t_takesSign hM hR1 45 (by decide)) (by omega) (Nat.le_refl _) (Nat.le_refl _) rfl (Nat.le_of_ble_eq_true rfl) (Nat.le_of_ble_eq_true rfl) dX6_sum_27 (by intros; rintro ⟨h, _⟩; cases h) (fun v2 g2 n2 h2 => ?_)
          obtain ⟨h2, rfl, hR2, hf2⟩ := h2; cases h2
          rw [hzk] at hR2 ⊢
          replace hf2 := hf1.tr hf2
          refine pw_if_eq_B 37 dX6_sum_30 (by decide) (fun c_30 => ?_) (fun c_30 => ?_)
          · rw [if_neg c_30] at hok hR2 ⊢
            refine pw_iconst (v := (-1)) dX6_sum_37 (by decide) ?_
            refine pw_istore_n (ls' := [(1, _), (0, _)]) dX6_sum_38 rfl (by decide) rfl ?_
            refine pw_ls [1, 0] (ls' := [(0, _), (1, _)]) rfl ?_
            refine pw_iload_n dX6_sum_39 1 rfl rfl ?_
            refine pw_iconst (v := (-1)) dX6_sum_40 (by decide) ?_
            refine pw_icmp_ne 45 dX6_sum_41 (by decide) (fun c_41 => ?_) (fun c_41 => ?_)
            · exact absurd rfl c_41
            · refine pw_vret rfl dX6_sum_44 ?_
              exact tT.inr (rtF hf2) (fun k _ j => rw_k hf2 k j) hR2 hi (by omega) ((rc_k hf2).trans hc.1) (hv.r hi hf2)
          · refine pw_iconst (v := 3) dX6_sum_33 (by decide) ?_
            refine pw_goto 38 dX6_sum_34 (by decide) ?_
            rw [if_pos c_30] at hok hR2 ⊢
            exact h38 3 n2 (Or.inr rfl) hok hR2 hf2
        · refine pw_iconst (v := 2) dX6_sum_20 (by decide) ?_
          refine pw_goto 38 dX6_sum_21 (by decide) ?_
          rw [if_pos c_17] at hok hR1 ⊢
          exact h38 2 n1 (Or.inl rfl) hok hR1 hf1
    · rw [pT_7] at hok ⊢
      refine pw_aload_n dX6_product_0 0 rfl rfl ?_
      refine pw_callV0 zmM_X6_oneValue rfl (lw_V q2312 q2314 qs87 q150 q2315) rfl (ts_this hM) zc_X6 (ih9 o (vK 0) p i n ho hR hc (pOk_B hok)) (by omega) (Nat.le_refl _) (Nat.le_refl _) rfl (Nat.le_of_ble_eq_true rfl) (Nat.le_of_ble_eq_true rfl) dX6_product_1 (by intros; rintro ⟨h, _⟩; cases h) (fun v1 g1 n1 h1 => ?_)
      obtain ⟨h1, rfl, hf1, hk1, hr⟩ := h1
      cases h1
      cases hrr : pT b N f 9 o (vK 0) p with
      | inl e =>
        rw [hrr] at hr
        refine pw_aload_n dX6_product_4 0 rfl rfl ?_
        refine pw_bipush (v := 42) dX6_product_5 (by decide) ?_
        refine pw_callV1 zmM_X6_takesSign rfl (lw_V q2320 q2322 qs89 q150 q2323) rfl (ts_this hM) zc_X6 (t_takesSignF hM hr.ne _) (by omega) (Nat.le_refl _) (Nat.le_refl _) rfl (Nat.le_of_ble_eq_true rfl) (Nat.le_of_ble_eq_true rfl) dX6_product_7 zE.nx (zE_kk ?_)
        refine pw_if_eq 26 dX6_product_10 (by decide) (fun c_10 => ?_) (fun c_10 => ?_)
        · refine pw_vret rfl dX6_product_26 ?_
          exact tT.inl hf1 hk1 hr
        · exact absurd rfl c_10
      | inr q =>
        rw [hrr] at hr hok
        obtain ⟨hR1, j, hj1, hj2, hj3, hj4⟩ := hr
        have hc2 := hc.2
        exact pw_mono (fun _ _ _ h => h.tr hf1 hk1 (by omega)) (ih8 o q.1 q.2 i j n1 ho hR1 ⟨hj3, by omega⟩ hj1 hj4 hok)
    · rw [pT_8] at hok ⊢
      refine pw_aload_n dX6_product_4 0 rfl rfl ?_
      refine pw_bipush (v := 42) dX6_product_5 (by decide) ?_
      refine pw_callV1 zmM_X6_takesSign rfl (lw_V q2320 q2322 qs89 q150 q2323) rfl (ts_this hM) zc_X6 (t_takesSign hM hR 42 (by decide)) (by omega) (Nat.le_refl _) (Nat.le_refl _) rfl (Nat.le_of_ble_eq_true rfl) (Nat.le_of_ble_eq_true rfl) dX6_product_7 (by intros; rintro ⟨h, _⟩; cases h) (fun v1 g1 n1 h1 => ?_)
      obtain ⟨h1, rfl, hR1, hf1⟩ := h1; cases h1
      have hv1 := hv.r hi hf1
      have hc1 : zfi n1 aT tf_readCodes = nI i := (rc_k hf1).trans hc.1
      have hge := skp_ge b N p
      have hc2 := hc.2
      refine pw_if_eq_B 26 dX6_product_10 (by decide) (fun c_10 => ?_) (fun c_10 => ?_)
      · refine pw_vret rfl dX6_product_26 ?_
        rw [if_neg c_10] at hR1 ⊢; exact tT.inr (rtF hf1) (fun k _ j => rw_k hf1 k j) hR1 hi (by omega) hc1 hv1
      · rw [if_pos c_10] at hok hR1 ⊢
        refine pw_aload_n dX6_product_13 0 rfl rfl ?_
        refine pw_callV0 zmM_X6_oneValue rfl (lw_V q2312 q2314 qs87 q150 q2315) rfl (ts_this hM) zc_X6 (ih9 o (vK 0) _ i n1 ho hR1 ⟨hc1, by omega⟩ (pOk_B hok)) (by omega) (Nat.le_refl _) (Nat.le_refl _) rfl (Nat.le_of_ble_eq_true rfl) (Nat.le_of_ble_eq_true rfl) dX6_product_14 (by intros; rintro ⟨h, _⟩; cases h) (fun v2 g2 n2 h2 => ?_)
        obtain ⟨h2, rfl, hf2, hk2, hr⟩ := h2
        cases h2
        have hf3 := (rtF hf1).tr hf2
        have hk3 : ∀ k, k < i0 → ∀ j, zai n2 (at_readCode + 1 + k) j = zai n (at_readCode + 1 + k) j := fun k h j => (hk2 k (by omega) j).trans (rw_k hf1 k j)
        cases hrr : pT b N f 9 o (vK 0) (skp b N p + 1) with
        | inl e =>
          rw [hrr] at hr
          refine pw_aload_n dX6_product_17 0 rfl rfl ?_
          refine pw_iconst (v := 4) dX6_product_18 (by decide) ?_
          refine pw_iconst (v := 0) dX6_product_19 (by decide) ?_
          refine pw_callV2 zmM_X6_says rfl (lw_V q2300 q2302 qs84 q150 q2303) rfl (ts_this hM) zc_X6 (t_saysF hM hr.ne _ _) (by omega) (Nat.le_refl _) (Nat.le_refl _) rfl (Nat.le_of_ble_eq_true rfl) (Nat.le_of_ble_eq_true rfl) dX6_product_20 zE.nx (zE_kk ?_)
          refine pw_goto 4 dX6_product_23 (by decide) ?_
          clear hok c_10
          refine pw_aload_n dX6_product_4 0 rfl rfl ?_
          refine pw_bipush (v := 42) dX6_product_5 (by decide) ?_
          refine pw_callV1 zmM_X6_takesSign rfl (lw_V q2320 q2322 qs89 q150 q2323) rfl (ts_this hM) zc_X6 (t_takesSignF hM hr.ne _) (by omega) (Nat.le_refl _) (Nat.le_refl _) rfl (Nat.le_of_ble_eq_true rfl) (Nat.le_of_ble_eq_true rfl) dX6_product_7 zE.nx (zE_kk ?_)
          refine pw_if_eq 26 dX6_product_10 (by decide) (fun c_10 => ?_) (fun c_10 => ?_)
          · refine pw_vret rfl dX6_product_26 ?_
            exact tT.inl hf3 hk3 hr
          · exact absurd rfl c_10
        | inr q =>
          rw [hrr] at hr hok
          obtain ⟨hR2, j, hj1, hj2, hj3, hj4⟩ := hr
          have hq2 := hR2.2.2.2.2.1
          have hv2 := hv1.cg hi hk2
          refine pw_aload_n dX6_product_17 0 rfl rfl ?_
          refine pw_iconst (v := 4) dX6_product_18 (by decide) ?_
          refine pw_iconst (v := 0) dX6_product_19 (by decide) ?_
          refine pw_callV2 zmM_X6_says rfl (lw_V q2300 q2302 qs84 q150 q2303) rfl (ts_this hM) zc_X6 (t_says hM hR2.2.1 j hj3 (by omega) _ _) (by omega) (Nat.le_refl _) (Nat.le_refl _) rfl (Nat.le_of_ble_eq_true rfl) (Nat.le_of_ble_eq_true rfl) dX6_product_20 zE.nx (zE_kk ?_)
          refine pw_goto 4 dX6_product_23 (by decide) ?_
          exact pw_mono (fun _ _ _ h => h.tr (hf3.tr (sy_ft (show j < 220 by omega))) (fun k h k2 => (sy_o n2 j 4 0 k (by omega) k2).trans (hk3 k h k2)) (by omega)) (ih8 o (vB 4 v q.1) q.2 i0 (j + 1) _ ho (hR2.s (sy_fr (by omega))) ⟨rfl, by omega⟩ (by omega) (hv2.bin hj4 hi hj1 (by decide)) hok)
    · rw [pT_9] at hok ⊢
      refine pw_aload_n dX6_oneValue_0 0 rfl rfl ?_
      refine pw_geti 5 zc_X6 (ts_this hM) (by decide) q1991 (Or.inl rfl) dX6_oneValue_1 ?_
      refine pw_if_eq 8 dX6_oneValue_4 (by decide) (fun c_4 => ?_) (fun c_4 => ?_)
      · refine pw_aload_n dX6_oneValue_8 0 rfl rfl ?_
        refine pw_callV0 zmM_X6_blanks rfl (lw_V q2196 q2198 qs64 q150 q2199) rfl (ts_this hM) zc_X6 (t_blk hM hR) (by omega) (Nat.le_refl _) (Nat.le_refl _) rfl (Nat.le_of_ble_eq_true rfl) (Nat.le_of_ble_eq_true rfl) dX6_oneValue_9 (by intros; rintro ⟨h, _⟩; cases h) (fun v0 g0 n0 h0 => ?_)
        obtain ⟨h0, rfl, hR0, hf0⟩ := h0; cases h0
        have hsk := skp_skp b N p
        have hge := skp_ge b N p
        have hc2 := hc.2
        have hno := skp_no b N p
        generalize skp b N p = q at hok hR0 hsk hge hno ⊢
        replace hR0 : TRd n0 b N q o := hR0
        have hX := hR0.1; have hqN := hR0.2.2.2.2.1
        have hc0 : zfi n0 aT tf_readCodes = nI i := (rc_k hf0).trans hc.1
        unfold pTu at hok ⊢
        refine pw_aload_n dX6_oneValue_12 0 rfl rfl ?_
        refine pw_aload_n dX6_oneValue_13 0 rfl rfl ?_
        refine pw_geti 4 zc_X6 (ts_this hM) (by decide) q1990 (Or.inl rfl) dX6_oneValue_14 ?_
        rw [hR0.2.2.1]
        refine pw_callV1 zmM_X6_byteAt rfl (lw_V q2200 q2202 qs65 q150 q2203) rfl (ts_this hM) zc_X6 (t_byteAt hM hX q (by have := hX.2.1; omega)) (by omega) (Nat.le_refl _) (Nat.le_refl _) rfl (Nat.le_of_ble_eq_true rfl) (Nat.le_of_ble_eq_true rfl) dX6_oneValue_17 zE.nx (zE_kk ?_)
        refine pw_bipush (v := 40) dX6_oneValue_20 (by decide) ?_
        refine pw_icmp_ne 64 dX6_oneValue_22 (by decide) (fun c_22 => ?_) (fun c_22 => ?_)
        · have h40 : ¬ tb b N q = 40 := fun z => c_22 ((tv_eq (c := 40) hX (by decide)).mpr z)
          rw [if_neg h40] at hok ⊢
          refine pw_aload_n dX6_oneValue_64 0 rfl rfl ?_
          refine pw_aload_n dX6_oneValue_65 0 rfl rfl ?_
          refine pw_geti 4 zc_X6 (ts_this hM) (by decide) q1990 (Or.inl rfl) dX6_oneValue_66 ?_
          rw [hR0.2.2.1]
          refine pw_callV1 zmM_X6_byteAt rfl (lw_V q2200 q2202 qs65 q150 q2203) rfl (ts_this hM) zc_X6 (t_byteAt hM hX q (by have := hX.2.1; omega)) (by omega) (Nat.le_refl _) (Nat.le_refl _) rfl (Nat.le_of_ble_eq_true rfl) (Nat.le_of_ble_eq_true rfl) dX6_oneValue_69 zE.nx (zE_kk ?_)
          refine pw_callS1 zmM_X6_isDigit rfl (lw_S q2242 q2243 q150 q2244) (t_isDigit _ _ _) (by omega) (Nat.le_refl _) (Nat.le_refl _) rfl (Nat.le_of_ble_eq_true rfl) (Nat.le_of_ble_eq_true rfl) dX6_oneValue_72 zE.nx (zE_kk ?_)
          refine pw_if_eq_B 92 dX6_oneValue_75 (by decide) (fun c_75 => ?_) (fun c_75 => ?_)
          · rw [if_neg (fun z => c_75 ((tv_digit hX).mpr z))] at hok ⊢
            have hk10 := pFact_le (tWd b N q)
            refine pw_aload_n dX6_oneValue_92 0 rfl rfl ?_
            refine pw_callV0 zmM_X6_knownHere rfl (lw_V q2316 q2318 qs88 q150 q2319) rfl (ts_this hM) zc_X6 (t_knownHere hM hsk hR0) (by omega) (Nat.le_refl _) (Nat.le_refl _) rfl (Nat.le_of_ble_eq_true rfl) (Nat.le_of_ble_eq_true rfl) dX6_oneValue_93 (by intros; rintro ⟨h, _⟩; cases h) (fun v2 g2 n2 h2 => ?_)
            obtain ⟨h2, rfl, hR2, hf2⟩ := h2; cases h2
            have hf3 := hf0.tr hf2
            by_cases h10 : pFact (tWd b N q) = 10
            · rw [if_pos h10, show kW (pFact (tWd b N q)) = -1 from if_pos h10]
              rw [show aftK b N q = q from if_pos h10] at hR2
              have hw := hR2.wr (k := 1) (q := q) (by decide) (by decide)
              refine pw_istore_n (ls' := [(1, _), (0, _)]) dX6_oneValue_96 rfl (by decide) rfl ?_
              refine pw_ls [1, 0] (ls' := [(0, _), (1, _)]) rfl ?_
              refine pw_iload_n dX6_oneValue_97 1 rfl rfl ?_
              refine pw_iconst (v := (-1)) dX6_oneValue_98 (by decide) ?_
              refine pw_icmp_ne 111 dX6_oneValue_99 (by decide) (fun c_99 => ?_) (fun c_99 => ?_)
              · exact absurd rfl c_99
              · refine pw_aload_n dX6_oneValue_102 0 rfl rfl ?_
                refine pw_iconst (v := 1) dX6_oneValue_103 (by decide) ?_
                refine pw_aload_n dX6_oneValue_104 0 rfl rfl ?_
                refine pw_geti 4 zc_X6 (ts_this hM) (by decide) q1990 (Or.inl rfl) dX6_oneValue_105 ?_
                rw [hR2.2.2.1]
                refine pw_callV2 zmM_X6_wrong rfl (lw_V q2226 q2228 qs70 q150 q2229) rfl (ts_this hM) zc_X6 (t_wrong hM _ _ hR2.2.1) (by omega) (Nat.le_refl _) (Nat.le_refl _) rfl (Nat.le_of_ble_eq_true rfl) (Nat.le_of_ble_eq_true rfl) dX6_oneValue_108 zE.nx (zE_kk ?_)
                refine pw_aload_n dX6_oneValue_111 0 rfl rfl ?_
                refine pw_iconst (v := 1) dX6_oneValue_112 (by decide) ?_
                refine pw_iload_n dX6_oneValue_113 1 rfl rfl ?_
                refine pw_callV2 zmM_X6_says rfl (lw_V q2300 q2302 qs84 q150 q2303) rfl (ts_this hM) zc_X6 (t_saysF hM hw.1.ne _ _) (by omega) (Nat.le_refl _) (Nat.le_refl _) rfl (Nat.le_of_ble_eq_true rfl) (Nat.le_of_ble_eq_true rfl) dX6_oneValue_114 zE.nx (zE_kk ?_)
                refine pw_vret rfl dX6_oneValue_117 ?_
                exact tT.inl (rtF (hf3.tr hw.2)) (fun k _ j => rw_k (hf3.tr hw.2) k j) hw.1
            · rw [if_neg h10, show kW (pFact (tWd b N q)) = nI (pFact (tWd b N q)) from if_neg h10]
              rw [show aftK b N q = q + (tWd b N q).length from if_neg h10] at hR2
              have hl0 : (tWd b N q).length ≠ 0 := fun z => h10 (pFact_10 (List.eq_nil_of_length_eq_zero z))
              have hl := tWd_len (b := b) hqN
              have hc3 : zfi n2 aT tf_readCodes = nI i := (rc_k hf3).trans hc.1
              refine pw_istore_n (ls' := [(1, _), (0, _)]) dX6_oneValue_96 rfl (by decide) rfl ?_
              refine pw_ls [1, 0] (ls' := [(0, _), (1, _)]) rfl ?_
              refine pw_iload_n dX6_oneValue_97 1 rfl rfl ?_
              refine pw_iconst (v := (-1)) dX6_oneValue_98 (by decide) ?_
              refine pw_icmp_ne 111 dX6_oneValue_99 (by decide) (fun c_99 => ?_) (fun c_99 => ?_)
              · refine pw_aload_n dX6_oneValue_111 0 rfl rfl ?_
                refine pw_iconst (v := 1) dX6_oneValue_112 (by decide) ?_
                refine pw_iload_n dX6_oneValue_113 1 rfl rfl ?_
                refine pw_callV2 zmM_X6_says rfl (lw_V q2300 q2302 qs84 q150 q2303) rfl (ts_this hM) zc_X6 (t_says hM hR2.2.1 i hc3 (by omega) _ _) (by omega) (Nat.le_refl _) (Nat.le_refl _) rfl (Nat.le_of_ble_eq_true rfl) (Nat.le_of_ble_eq_true rfl) dX6_oneValue_114 zE.nx (zE_kk ?_)
                refine pw_vret rfl dX6_oneValue_117 ?_
                exact tT.inr ((rtF hf3).tr (sy_ft (show i < 220 by omega))) (fun k h k2 => (sy_o n2 i 1 _ k h k2).trans (rw_k hf3 k k2)) (hR2.s (sy_fr (by omega))) (Nat.le_succ _) (by omega) rfl (tGt.fact n2 i _ (by omega))
              · exact absurd c_99 (fun z => by have := congrArg Int32.toInt z; rw [nI_toInt (by omega), show (-1 : Int32).toInt = -1 from by decide] at this; omega)
          · have hd := (tv_digit hX).mp c_75
            rw [if_pos hd] at hok ⊢
            refine pw_aload_n dX6_oneValue_78 0 rfl rfl ?_
            refine pw_iconst (v := 0) dX6_oneValue_79 (by decide) ?_
            refine pw_aload_n dX6_oneValue_80 0 rfl rfl ?_
            refine pw_iconst (v := 0) dX6_oneValue_81 (by decide) ?_
            refine pw_sipush (v := 999) dX6_oneValue_82 (by decide) ?_
            refine pw_callV2 zmM_X6_number rfl (lw_V q2238 q2240 qs73 q150 q2241) rfl (ts_this hM) zc_X6 (t_number hM hR0 0 999 (by decide) (by decide)) (by omega) (Nat.le_refl _) (Nat.le_refl _) rfl (Nat.le_of_ble_eq_true rfl) (Nat.le_of_ble_eq_true rfl) dX6_oneValue_85 rR.nx (fun v2 g2 n2 h2 => ?_)
            obtain ⟨rfl, hf2, hr⟩ := h2
            have hf3 := hf0.tr hf2
            cases hrr : pNum b N 0 999 q with
            | inl e =>
              rw [hrr] at hr
              obtain ⟨⟨x, hx⟩, hF⟩ := hr
              cases hx
              refine pw_callV2 zmM_X6_says rfl (lw_V q2300 q2302 qs84 q150 q2303) rfl (ts_this hM) zc_X6 (t_saysF hM hF.ne _ _) (by omega) (Nat.le_refl _) (Nat.le_refl _) rfl (Nat.le_of_ble_eq_true rfl) (Nat.le_of_ble_eq_true rfl) dX6_oneValue_88 zE.nx (zE_kk ?_)
              refine pw_vret rfl dX6_oneValue_91 ?_
              exact tT.inl (rtF hf3) (fun k _ j => rw_k hf3 k j) hF
            | inr z =>
              rw [hrr] at hr
              obtain ⟨hx, hR2⟩ := hr
              cases hx
              have hz2 := hR2.2.2.2.2.1
              have hzq : q + 1 ≤ z.2 := by
                have hn := hrr
                unfold pNum at hn
                rw [hsk, if_neg (fun z => z hd)] at hn
                split at hn
                · cases hn
                · have h3 := tNm_ge (b := b) (N := N) (v := 10 * 0 + (tb b N q - 48)) (p := q + 1) (tb_lt (b := b) (by unfold isDg at hd; omega))
                  rw [← tNm_s hd] at h3
                  have he := Sum.inr.inj hn
                  rw [he] at h3
                  exact h3.1
              have hc3 : zfi n2 aT tf_readCodes = nI i := (rc_k hf3).trans hc.1
              refine pw_callV2 zmM_X6_says rfl (lw_V q2300 q2302 qs84 q150 q2303) rfl (ts_this hM) zc_X6 (t_says hM hR2.2.1 i hc3 (by omega) _ _) (by omega) (Nat.le_refl _) (Nat.le_refl _) rfl (Nat.le_of_ble_eq_true rfl) (Nat.le_of_ble_eq_true rfl) dX6_oneValue_88 zE.nx (zE_kk ?_)
              refine pw_vret rfl dX6_oneValue_91 ?_
              exact tT.inr ((rtF hf3).tr (sy_ft (show i < 220 by omega))) (fun k h k2 => (sy_o n2 i 0 _ k h k2).trans (rw_k hf3 k k2)) (hR2.s (sy_fr (by omega))) (Nat.le_succ _) (by omega) rfl (tGt.num n2 i z.1)
        · have h40 := (tv_eq (c := 40) hX (by decide)).mp c_22
          have hlt : q + 1 ≤ N := tb_lt (b := b) (by omega)
          rw [if_pos h40] at hok ⊢
          by_cases ho6 : o = 6
          · rw [if_pos ho6] at hok ⊢
            refine pw_aload_n dX6_oneValue_25 0 rfl rfl ?_
            refine pw_callV0 zmM_X6_opens rfl (lw_V q2258 q2260 qs77 q150 q2261) rfl (ts_this hM) zc_X6 (t_opens6 hM hR0 ho6) (by omega) (Nat.le_refl _) (Nat.le_refl _) rfl (Nat.le_of_ble_eq_true rfl) (Nat.le_of_ble_eq_true rfl) dX6_oneValue_26 (by intros; rintro ⟨h, _⟩; cases h) (fun v2 g2 n2 h2 => ?_)
            obtain ⟨h2, rfl, hF, hf2⟩ := h2; cases h2
            refine pw_if_ne 33 dX6_oneValue_29 (by decide) (fun c_29 => ?_) (fun c_29 => ?_)
            · exact absurd rfl c_29
            · refine pw_vret rfl dX6_oneValue_32 ?_
              exact tT.inl (rtF (hf0.tr hf2)) (fun k _ j => rw_k (hf0.tr hf2) k j) hF
          · rw [if_neg ho6] at hok ⊢
            refine pw_aload_n dX6_oneValue_25 0 rfl rfl ?_
            refine pw_callV0 zmM_X6_opens rfl (lw_V q2258 q2260 qs77 q150 q2261) rfl (ts_this hM) zc_X6 (t_opens hM hR0 (by omega)) (by omega) (Nat.le_refl _) (Nat.le_refl _) rfl (Nat.le_of_ble_eq_true rfl) (Nat.le_of_ble_eq_true rfl) dX6_oneValue_26 (by intros; rintro ⟨h, _⟩; cases h) (fun v2 g2 n2 h2 => ?_)
            obtain ⟨h2, rfl, hR2, hf2⟩ := h2; cases h2
            refine pw_if_ne 33 dX6_oneValue_29 (by decide) (fun c_29 => ?_) (fun c_29 => ?_)
            · refine pw_aload_n dX6_oneValue_33 0 rfl rfl ?_
              refine pw_dup dX6_oneValue_34 rfl ?_
              refine pw_geti 4 zc_X6 (ts_this hM) (by decide) q1990 (Or.inl rfl) dX6_oneValue_35 ?_
              rw [hR2.2.2.1]
              refine pw_iconst (v := 1) dX6_oneValue_38 (by decide) ?_
              refine pw_iadd dX6_oneValue_39 ?_
              rw [nI_1]
              refine pw_puti 4 zc_X6 (ts_this hM) (by decide) (by decide) q1990 rfl (Or.inl rfl) rfl rfl dX6_oneValue_40 ?_
              have hR3 := hR2.at hlt
              have hf4 := hf0.tr (hf2.pfi (v := nI (q + 1)) rF_at)
              generalize zpfi n2 aT tf_at (nI (q + 1)) = n3 at hR3 hf4 ⊢
              refine pw_aload_n dX6_oneValue_43 0 rfl rfl ?_
              refine pw_callV0 zmM_X6_sum rfl (lw_V q2304 q2306 qs85 q150 q2307) rfl (ts_this hM) zc_X6 (ih5 (o + 1) (vK 0) _ i n3 (by omega) hR3 ⟨(rc_k hf4).trans hc.1, by omega⟩ (pOk_B hok)) (by omega) (Nat.le_refl _) (Nat.le_refl _) rfl (Nat.le_of_ble_eq_true rfl) (Nat.le_of_ble_eq_true rfl) dX6_oneValue_44 (by intros; rintro ⟨h, _⟩; cases h) (fun v5 g5 n5 h5 => ?_)
              obtain ⟨h5, rfl, hf5, hk5, hr⟩ := h5
              cases h5
              have hf6 := (rtF hf4).tr hf5
              have hk6 : ∀ k, k < i → ∀ j, zai n5 (at_readCode + 1 + k) j = zai n (at_readCode + 1 + k) j := fun k h j => (hk5 k h j).trans (rw_k hf4 k j)
              cases hrr : pT b N f 5 (o + 1) (vK 0) (q + 1) with
              | inl e =>
                rw [hrr] at hr
                refine pw_aload_n dX6_oneValue_47 0 rfl rfl ?_
                refine pw_bipush (v := 41) dX6_oneValue_48 (by decide) ?_
                refine pw_callV1 zmM_X6_sign rfl (lw_V q2262 q2264 qs78 q150 q2265) rfl (ts_this hM) zc_X6 (t_signF hM hr.ne _) (by omega) (Nat.le_refl _) (Nat.le_refl _) rfl (Nat.le_of_ble_eq_true rfl) (Nat.le_of_ble_eq_true rfl) dX6_oneValue_50 zE.nx (zE_kk ?_)
                refine pw_aload_n dX6_oneValue_53 0 rfl rfl ?_
                refine pw_dup dX6_oneValue_54 rfl ?_
                refine pw_geti 8 zc_X6 (ts_this hM) (by decide) q1994 (Or.inl rfl) dX6_oneValue_55 ?_
                refine pw_iconst (v := 1) dX6_oneValue_58 (by decide) ?_
                refine pw_isub dX6_oneValue_59 ?_
                refine pw_puti 8 zc_X6 (ts_this hM) (by decide) (by decide) q1994 rfl (Or.inl rfl) rfl rfl dX6_oneValue_60 ?_
                refine pw_vret rfl dX6_oneValue_63 ?_
                exact tT.inl (hf6.pfi (Or.inl rF_op)) hk6 hr.op
              | inr z =>
                rw [hrr] at hr
                obtain ⟨hR5, j, hj1, hj2, hj3, hj4⟩ := hr
                rw [pB_r, pNeed_u]
                refine pw_aload_n dX6_oneValue_47 0 rfl rfl ?_
                refine pw_bipush (v := 41) dX6_oneValue_48 (by decide) ?_
                refine pw_callV1 zmM_X6_sign rfl (lw_V q2262 q2264 qs78 q150 q2265) rfl (ts_this hM) zc_X6 (t_sign hM hR5 41 (by decide)) (by omega) (Nat.le_refl _) (Nat.le_refl _) rfl (Nat.le_of_ble_eq_true rfl) (Nat.le_of_ble_eq_true rfl) dX6_oneValue_50 rR.nx (fun v7 g7 n7 h7 => ?_)
                obtain ⟨rfl, hf7, hr7⟩ := h7
                have hf8 := hf6.tr (rtF hf7)
                have hk8 : ∀ k, k < i → ∀ j, zai n7 (at_readCode + 1 + k) j = zai n (at_readCode + 1 + k) j := fun k h j => (rw_k hf7 k j).trans (hk6 k h j)
                have hnf := pNeed_far b N 41 z.2 (by decide) ()
                cases hr8 : pNeed b N 41 z.2 () with
                | inl e =>
                  rw [hr8] at hr7
                  obtain ⟨⟨x, hx⟩, hF⟩ := hr7
                  cases hx
                  refine pw_aload_n dX6_oneValue_53 0 rfl rfl ?_
                  refine pw_dup dX6_oneValue_54 rfl ?_
                  refine pw_geti 8 zc_X6 (ts_this hM) (by decide) q1994 (Or.inl rfl) dX6_oneValue_55 ?_
                  refine pw_iconst (v := 1) dX6_oneValue_58 (by decide) ?_
                  refine pw_isub dX6_oneValue_59 ?_
                  refine pw_puti 8 zc_X6 (ts_this hM) (by decide) (by decide) q1994 rfl (Or.inl rfl) rfl rfl dX6_oneValue_60 ?_
                  refine pw_vret rfl dX6_oneValue_63 ?_
                  exact tT.inl (hf8.pfi (Or.inl rF_op)) hk8 hF.op
                | inr y =>
                  rw [hr8] at hr7 hnf
                  obtain ⟨hx, hR8⟩ := hr7
                  cases hx
                  have hn1 := hnf.1
                  refine pw_aload_n dX6_oneValue_53 0 rfl rfl ?_
                  refine pw_dup dX6_oneValue_54 rfl ?_
                  refine pw_geti 8 zc_X6 (ts_this hM) (by decide) q1994 (Or.inl rfl) dX6_oneValue_55 ?_
                  rw [hR8.2.2.2.1]
                  refine pw_iconst (v := 1) dX6_oneValue_58 (by decide) ?_
                  refine pw_isub dX6_oneValue_59 ?_
                  rw [nI_pred]
                  refine pw_puti 8 zc_X6 (ts_this hM) (by decide) (by decide) q1994 rfl (Or.inl rfl) rfl rfl dX6_oneValue_60 ?_
                  refine pw_vret rfl dX6_oneValue_63 ?_
                  exact tT.inr (hf8.pfi (Or.inl rF_op)) hk8 hR8.op hj1 (by omega) ((rc_k hf7).trans hj3) ((hj4.r hj1 hf7).r hj1 (zFr.rf.pfi rF_op))
            · exact absurd c_29 (by decide)
      · exact absurd hR.2.1 c_4

/-! ===== the reference: a tongue is read ===== -/
def wwF (a k : Nat) : Prop := ttF a k ∨ (a = aT ∧ k = tf_readWhos)
def wwA (a : Nat) : Prop := ttA a ∨ (at_readWho < a ∧ a ≤ at_readWho + 10)
theorem twF {n n' : zg_N} (h : zFr ttF ttA n n') : zFr wwF wwA n n' := h.mono (fun _ _ z => Or.inl z) (fun _ z => Or.inl z)
theorem wwA_r {k : Nat} (h : k < 10) : wwA (at_readWho + 1 + k) := Or.inr ⟨by show 1073 < 1073 + 1 + k; omega, by show 1073 + 1 + k ≤ 1073 + 10; omega⟩
theorem TX.keep4 {n n' : zg_N} {b : Nat → Nat} {N : Nat} (h : TX n b N) (hf : zFr wwF wwA n n') : TX n' b N :=
  ⟨((hf.1 aT tf_size (fun z => by rcases z with (⟨_, z | z | z | z⟩ | ⟨_, z⟩) | ⟨_, z⟩ <;> exact absurd z (by decide))).1).trans h.1, h.2.1, fun k hk => ⟨((hf.2 at_fed (fun z => by unfold wwA ttA at z; revert z; decide) k).1).trans (h.2.2 k hk).1, (h.2.2 k hk).2⟩⟩
/-- the rows that are read: who falls, the codes of the ground -/
def TRw (n : zg_N) (T : List (Nat × zW)) (i : Nat) : Prop := ∀ k q, T[k]? = some q → ∃ i1 j1, i1 ≤ j1 ∧ j1 ≤ i ∧ zai n (at_readWho + 1 + k) 0 = nI q.1 ∧ zai n (at_readWho + 1 + k) 1 = nI i1 ∧ zai n (at_readWho + 1 + k) 2 = nI j1 ∧ tGt n i1 j1 q.2
def rW (g : zg_G) (n : zg_N) (b : Nat → Nat) (N : Nat) (r : zPR (List (Nat × zW))) : zP := fun out g1 n1 => out = .inl none ∧ g1 = g ∧ zFr wwF wwA n n1 ∧ match r with
  | .inr q => TRd n1 b N q.2 0 ∧ ∃ j, j ≤ q.2 ∧ zfi n1 aT tf_readCodes = nI j ∧ zfi n1 aT tf_readWhos = nI q.1.length ∧ TRw n1 q.1 j
  | .inl e => TFl n1 e
theorem TRd.w {n n' : zg_N} {b : Nat → Nat} {N p o : Nat} (h : TRd n b N p o) (hf : zFr (fun a k => a = aT ∧ k = tf_readWhos) (fun a => at_readWho < a ∧ a ≤ at_readWho + 10) n n') : TRd n' b N p o := by
  have f : ∀ k, k ≠ tf_readWhos → zfi n' aT k = zfi n aT k := fun k hk => (hf.1 aT k (fun z => hk z.2)).1
  exact ⟨h.1.keep4 (hf.mono (fun _ _ z => Or.inr z) (fun _ z => Or.inr z)), (f tf_fault (by decide)).trans h.2.1, (f tf_at (by decide)).trans h.2.2.1, (f tf_open (by decide)).trans h.2.2.2.1, h.2.2.2.2.1, (f tf_faultAt (by decide)).trans h.2.2.2.2.2⟩
theorem TFl.w {n n' : zg_N} {e : Nat × Nat} (h : TFl n e) (hf : zFr (fun a k => a = aT ∧ k = tf_readWhos) (fun a => at_readWho < a ∧ a ≤ at_readWho + 10) n n') : TFl n' e := by
  have f : ∀ k, k ≠ tf_readWhos → zfi n' aT k = zfi n aT k := fun k hk => (hf.1 aT k (fun z => hk z.2)).1
  exact ⟨(f tf_fault (by decide)).trans h.1, (f tf_faultAt (by decide)).trans h.2.1, h.2.2.1, h.2.2.2.1, by rw [f tf_at (by decide)]; exact h.2.2.2.2⟩
theorem rwA1 {k : Nat} (h : k < 10) : at_readWho < at_readWho + 1 + k ∧ at_readWho + 1 + k ≤ at_readWho + 10 := ⟨by show 1073 < 1073 + 1 + k; omega, by show 1073 + 1 + k ≤ 1073 + 10; omega⟩
set_option maxHeartbeats 1000000 in
theorem t_whoHere {g : zg_G} {n : zg_N} {b : Nat → Nat} {N q i : Nat} {T : List (Nat × zW)} (hM : TSh g) (hN : N ≤ 200) (hsk : skp b N q = q) (hT : TOk T) (hR : TRd n b N q 0) (hi : i ≤ q) (hc : zfi n aT tf_readCodes = nI i) (hw : zfi n aT tf_readWhos = nI T.length) (hrw : TRw n T i) : PW zm_X6_whoHere 34 (rW g n b N (pRw b N T q)) 0 0 0 [(0, .ref aT)] [] g n := by
  have hl10 := hT.1
  have hqN := hR.2.2.2.2.1
  have nrw : ∀ {n1 : zg_N}, zFr rF rA n n1 → zfi n1 aT tf_readWhos = nI T.length := fun hf => ((hf.1 aT tf_readWhos (fun z => by rcases z.2 with z | z | z | z <;> exact absurd z (by decide))).1).trans hw
  -- who is known
  have h103 : ∀ (w : Nat) (n1 : zg_N), w < 3 → pWho (tWd b N q) = w → ¬ T.length = 10 → TRd n1 b N q 0 → zFr rF rA n n1 → PW zm_X6_whoHere 34 (rW g n b N (pRw b N T q)) 0 0 103 [(0, .ref aT), (1, .int (nI w))] [] g n1 := by
    intro w n1 hw3 hwe h10 hR1 hf1
    have hp : pRw b N T q = pB (pGr b N (q + (tWd b N q).length)) (fun v p1 => pNeed b N 59 p1 (T ++ [(w, v)])) := by
      unfold pRw
      rw [if_neg (by omega), if_neg h10, hwe]
    have hl := tWd_len (b := b) hqN
    rw [hp]
    refine pw_aload_n dX6_whoHere_103 0 rfl rfl ?_
    refine pw_callV0 zmM_X6_skipWord rfl (lw_V q2234 q2236 qs72 q150 q2237) rfl (ts_this hM) zc_X6 (t_skw hM hR1) (by decide) (Nat.le_refl _) (Nat.le_refl _) rfl (Nat.le_of_ble_eq_true rfl) (Nat.le_of_ble_eq_true rfl) dX6_whoHere_104 (by intros; rintro ⟨h, _⟩; cases h) (fun v2 g2 n2 h2 => ?_)
    obtain ⟨h2, rfl, hR2, hf2⟩ := h2; cases h2
    have hf3 := hf1.tr hf2
    have hw2 := nrw hf3
    have hc2 : zfi n2 aT tf_readCodes = nI i := (rc_k hf3).trans hc
    have hip : i ≤ q + (tWd b N q).length := by omega
    generalize q + (tWd b N q).length = p at hR2 hl hip ⊢
    refine pw_aload_n dX6_whoHere_107 0 rfl rfl ?_
    refine pw_getr 30 zc_X6 (ts_this hM) (by decide) q2016 (Or.inr ⟨_, rfl⟩) (tr_readWho hM) dX6_whoHere_108 ?_
    refine pw_aload_n dX6_whoHere_111 0 rfl rfl ?_
    refine pw_geti 26 zc_X6 (ts_this hM) (by decide) q2012 (Or.inl rfl) dX6_whoHere_112 ?_
    rw [hw2]
    refine pw_aald (T.length) rfl (ts_readWho hM) rfl (Or.inr ⟨_, rfl⟩) (tw_readWho hM (T.length) (by omega)) (by omega) (by decide) dX6_whoHere_115 ?_
    refine pw_iconst (v := 0) dX6_whoHere_116 (by decide) ?_
    refine pw_iload_n dX6_whoHere_117 1 rfl rfl ?_
    refine pw_iast 0 rfl (tv_readWho hM (T.length) (by omega)) (zK_e (by decide)) (by decide) (by decide) dX6_whoHere_118 ?_
    refine pw_aload_n dX6_whoHere_119 0 rfl rfl ?_
    refine pw_getr 30 zc_X6 (ts_this hM) (by decide) q2016 (Or.inr ⟨_, rfl⟩) (tr_readWho hM) dX6_whoHere_120 ?_
    refine pw_aload_n dX6_whoHere_123 0 rfl rfl ?_
    refine pw_geti 26 zc_X6 (ts_this hM) (by decide) q2012 (Or.inl rfl) dX6_whoHere_124 ?_
    rw [show zfi (zpai n2 (at_readWho + 1 + T.length) 0 (nI w)) aT tf_readWhos = nI T.length from hw2]
    refine pw_aald (T.length) rfl (ts_readWho hM) rfl (Or.inr ⟨_, rfl⟩) (tw_readWho hM (T.length) (by omega)) (by omega) (by decide) dX6_whoHere_127 ?_
    refine pw_iconst (v := 1) dX6_whoHere_128 (by decide) ?_
    refine pw_aload_n dX6_whoHere_129 0 rfl rfl ?_
    refine pw_geti 28 zc_X6 (ts_this hM) (by decide) q2014 (Or.inl rfl) dX6_whoHere_130 ?_
    rw [show zfi (zpai n2 (at_readWho + 1 + T.length) 0 (nI w)) aT tf_readCodes = nI i from hc2]
    refine pw_iast 1 rfl (tv_readWho hM (T.length) (by omega)) (zK_e (by decide)) (by decide) (by decide) dX6_whoHere_133 ?_
    have hff : zFr (fun a k => a = aT ∧ k = tf_readWhos) (fun a => at_readWho < a ∧ a ≤ at_readWho + 10) n2 (zpai (zpai n2 (at_readWho + 1 + T.length) 0 (nI w)) (at_readWho + 1 + T.length) 1 (nI i)) := (zFr.rf.pai (rwA1 (by omega))).pai (rwA1 (by omega))
    have hR3 := hR2.w hff
    have hA0 : zai (zpai (zpai n2 (at_readWho + 1 + T.length) 0 (nI w)) (at_readWho + 1 + T.length) 1 (nI i)) (at_readWho + 1 + T.length) 0 = nI w := by rw [zai_p, if_neg (fun z => absurd z.2 (by decide)), zai_p, if_pos ⟨rfl, rfl⟩]
    have hA1 : zai (zpai (zpai n2 (at_readWho + 1 + T.length) 0 (nI w)) (at_readWho + 1 + T.length) 1 (nI i)) (at_readWho + 1 + T.length) 1 = nI i := by rw [zai_p, if_pos ⟨rfl, rfl⟩]
    have hAo : ∀ a, a ≠ at_readWho + 1 + T.length → ∀ k, zai (zpai (zpai n2 (at_readWho + 1 + T.length) 0 (nI w)) (at_readWho + 1 + T.length) 1 (nI i)) a k = zai n2 a k := fun a ha k => by rw [zai_p, if_neg (fun z => ha z.1), zai_p, if_neg (fun z => ha z.1)]
    have hc3 : zfi (zpai (zpai n2 (at_readWho + 1 + T.length) 0 (nI w)) (at_readWho + 1 + T.length) 1 (nI i)) aT tf_readCodes = nI i := hc2
    have hw3' : zfi (zpai (zpai n2 (at_readWho + 1 + T.length) 0 (nI w)) (at_readWho + 1 + T.length) 1 (nI i)) aT tf_readWhos = nI T.length := hw2
    generalize zpai (zpai n2 (at_readWho + 1 + T.length) 0 (nI w)) (at_readWho + 1 + T.length) 1 (nI i) = n3 at hff hR3 hA0 hA1 hAo hc3 hw3' ⊢
    refine pw_aload_n dX6_whoHere_134 0 rfl rfl ?_
    refine pw_callV0 zmM_X6_tongueAny rfl (lw_V q2288 q2290 qs81 q150 q2291) rfl (ts_this hM) zc_X6 ((t_pT hM hN (fuT N)).1 0 (vK 0) p i n3 (by decide) hR3 ⟨hc3, hip⟩ (pGr_ok b N hl)) (by decide) (Nat.le_refl _) (Nat.le_refl _) rfl (Nat.le_of_ble_eq_true rfl) (Nat.le_of_ble_eq_true rfl) dX6_whoHere_135 (by intros; rintro ⟨h, _⟩; cases h) (fun v5 g5 n5 h5 => ?_)
    obtain ⟨h5, rfl, hf5, hk5, hr⟩ := h5
    cases h5
    have hw5 : zfi n5 aT tf_readWhos = nI T.length := ((hf5.1 aT tf_readWhos (fun z => by rcases z with ⟨_, z | z | z | z⟩ | ⟨_, z⟩ <;> exact absurd z (by decide))).1).trans hw3'
    have h5o : ∀ k, k < 10 → ∀ j, zai n5 (at_readWho + 1 + k) j = zai n3 (at_readWho + 1 + k) j := fun k hk j => (hf5.2 _ (fun z => by have h1 : 1305 < 1073 + 1 + k := z.1; omega) j).1
    have hfall : zFr wwF wwA n n5 := (twF (rtF hf3)).tr ((hff.mono (fun _ _ z => Or.inr z) (fun _ z => Or.inr z)).tr (twF hf5))
    have hpg : pT b N (fuT N) 0 0 (vK 0) p = pGr b N p := rfl
    rw [hpg] at hr
    cases hrr : pGr b N p with
    | inl e =>
      rw [hrr] at hr
      refine pw_aload_n dX6_whoHere_138 0 rfl rfl ?_
      refine pw_getr 30 zc_X6 (ts_this hM) (by decide) q2016 (Or.inr ⟨_, rfl⟩) (tr_readWho hM) dX6_whoHere_139 ?_
      refine pw_aload_n dX6_whoHere_142 0 rfl rfl ?_
      refine pw_geti 26 zc_X6 (ts_this hM) (by decide) q2012 (Or.inl rfl) dX6_whoHere_143 ?_
      rw [hw5]
      refine pw_aald (T.length) rfl (ts_readWho hM) rfl (Or.inr ⟨_, rfl⟩) (tw_readWho hM (T.length) (by omega)) (by omega) (by decide) dX6_whoHere_146 ?_
      refine pw_iconst (v := 2) dX6_whoHere_147 (by decide) ?_
      refine pw_aload_n dX6_whoHere_148 0 rfl rfl ?_
      refine pw_geti 28 zc_X6 (ts_this hM) (by decide) q2014 (Or.inl rfl) dX6_whoHere_149 ?_
      refine pw_iast 2 rfl (tv_readWho hM (T.length) (by omega)) (zK_e (by decide)) (by decide) (by decide) dX6_whoHere_152 ?_
      refine pw_aload_n dX6_whoHere_153 0 rfl rfl ?_
      refine pw_dup dX6_whoHere_154 rfl ?_
      refine pw_geti 26 zc_X6 (ts_this hM) (by decide) q2012 (Or.inl rfl) dX6_whoHere_155 ?_
      rw [show zfi (zpai n5 (at_readWho + 1 + T.length) 2 (zfi n5 aT tf_readCodes)) aT tf_readWhos = nI T.length from hw5]
      refine pw_iconst (v := 1) dX6_whoHere_158 (by decide) ?_
      refine pw_iadd dX6_whoHere_159 ?_
      rw [nI_1]
      refine pw_puti 26 zc_X6 (ts_this hM) (by decide) (by decide) q2012 rfl (Or.inl rfl) rfl rfl dX6_whoHere_160 ?_
      have hF : TFl (zpfi (zpai n5 (at_readWho + 1 + T.length) 2 (zfi n5 aT tf_readCodes)) aT tf_readWhos (nI (T.length + 1))) e := hr.w ((zFr.rf.pai (rwA1 (by omega))).pfi ⟨rfl, rfl⟩)
      refine pw_aload_n dX6_whoHere_163 0 rfl rfl ?_
      refine pw_bipush (v := 59) dX6_whoHere_164 (by decide) ?_
      refine pw_callV1 zmM_X6_sign rfl (lw_V q2262 q2264 qs78 q150 q2265) rfl (ts_this hM) zc_X6 (t_signF hM hF.ne _) (by decide) (Nat.le_refl _) (Nat.le_refl _) rfl (Nat.le_of_ble_eq_true rfl) (Nat.le_of_ble_eq_true rfl) dX6_whoHere_166 zE.nx (zE_kk ?_)
      refine pw_vret rfl dX6_whoHere_169 ?_
      exact ⟨rfl, rfl, (hfall.pai (wwA_r (by omega))).pfi (Or.inr ⟨rfl, rfl⟩), hF⟩
    | inr z =>
      rw [hrr] at hr
      obtain ⟨hR5, j, hj1, hj2, hj3, hj4⟩ := hr
      have hz2 := hR5.2.2.2.2.1
      rw [pB_r, pNeed_u]
      refine pw_aload_n dX6_whoHere_138 0 rfl rfl ?_
      refine pw_getr 30 zc_X6 (ts_this hM) (by decide) q2016 (Or.inr ⟨_, rfl⟩) (tr_readWho hM) dX6_whoHere_139 ?_
      refine pw_aload_n dX6_whoHere_142 0 rfl rfl ?_
      refine pw_geti 26 zc_X6 (ts_this hM) (by decide) q2012 (Or.inl rfl) dX6_whoHere_143 ?_
      rw [hw5]
      refine pw_aald (T.length) rfl (ts_readWho hM) rfl (Or.inr ⟨_, rfl⟩) (tw_readWho hM (T.length) (by omega)) (by omega) (by decide) dX6_whoHere_146 ?_
      refine pw_iconst (v := 2) dX6_whoHere_147 (by decide) ?_
      refine pw_aload_n dX6_whoHere_148 0 rfl rfl ?_
      refine pw_geti 28 zc_X6 (ts_this hM) (by decide) q2014 (Or.inl rfl) dX6_whoHere_149 ?_
      rw [hj3]
      refine pw_iast 2 rfl (tv_readWho hM (T.length) (by omega)) (zK_e (by decide)) (by decide) (by decide) dX6_whoHere_152 ?_
      refine pw_aload_n dX6_whoHere_153 0 rfl rfl ?_
      refine pw_dup dX6_whoHere_154 rfl ?_
      refine pw_geti 26 zc_X6 (ts_this hM) (by decide) q2012 (Or.inl rfl) dX6_whoHere_155 ?_
      rw [show zfi (zpai n5 (at_readWho + 1 + T.length) 2 (nI j)) aT tf_readWhos = nI T.length from hw5]
      refine pw_iconst (v := 1) dX6_whoHere_158 (by decide) ?_
      refine pw_iadd dX6_whoHere_159 ?_
      rw [nI_1]
      refine pw_puti 26 zc_X6 (ts_this hM) (by decide) (by decide) q2012 rfl (Or.inl rfl) rfl rfl dX6_whoHere_160 ?_
      have hf6 : zFr (fun a k => a = aT ∧ k = tf_readWhos) (fun a => at_readWho < a ∧ a ≤ at_readWho + 10) n5 (zpfi (zpai n5 (at_readWho + 1 + T.length) 2 (nI j)) aT tf_readWhos (nI (T.length + 1))) := (zFr.rf.pai (rwA1 (by omega))).pfi ⟨rfl, rfl⟩
      have hR6 := hR5.w hf6
      have hB2 : zai (zpfi (zpai n5 (at_readWho + 1 + T.length) 2 (nI j)) aT tf_readWhos (nI (T.length + 1))) (at_readWho + 1 + T.length) 2 = nI j := by
        show zai (zpai n5 (at_readWho + 1 + T.length) 2 (nI j)) (at_readWho + 1 + T.length) 2 = nI j
        rw [zai_p, if_pos ⟨rfl, rfl⟩]
      have hBo : ∀ a k, ¬ (a = at_readWho + 1 + T.length ∧ k = 2) → zai (zpfi (zpai n5 (at_readWho + 1 + T.length) 2 (nI j)) aT tf_readWhos (nI (T.length + 1))) a k = zai n5 a k := fun a k h => by
        show zai (zpai n5 (at_readWho + 1 + T.length) 2 (nI j)) a k = _
        rw [zai_p, if_neg h]
      have hw6 : zfi (zpfi (zpai n5 (at_readWho + 1 + T.length) 2 (nI j)) aT tf_readWhos (nI (T.length + 1))) aT tf_readWhos = nI (T.length + 1) := rfl
      have hc6 : zfi (zpfi (zpai n5 (at_readWho + 1 + T.length) 2 (nI j)) aT tf_readWhos (nI (T.length + 1))) aT tf_readCodes = nI j := hj3
      generalize zpfi (zpai n5 (at_readWho + 1 + T.length) 2 (nI j)) aT tf_readWhos (nI (T.length + 1)) = n6 at hf6 hR6 hB2 hBo hw6 hc6 ⊢
      have hfall6 := hfall.tr (hf6.mono (fun _ _ z => Or.inr z) (fun _ z => Or.inr z))
      refine pw_aload_n dX6_whoHere_163 0 rfl rfl ?_
      refine pw_bipush (v := 59) dX6_whoHere_164 (by decide) ?_
      refine pw_callV1 zmM_X6_sign rfl (lw_V q2262 q2264 qs78 q150 q2265) rfl (ts_this hM) zc_X6 (t_sign hM hR6 59 (by decide)) (by decide) (Nat.le_refl _) (Nat.le_refl _) rfl (Nat.le_of_ble_eq_true rfl) (Nat.le_of_ble_eq_true rfl) dX6_whoHere_166 rR.nx (fun v7 g7 n7 h7 => ?_)
      obtain ⟨rfl, hf7, hr7⟩ := h7
      have hfall7 := hfall6.tr (twF (rtF hf7))
      have hnf := pNeed_far b N 59 z.2 (by decide) ()
      cases hr8 : pNeed b N 59 z.2 () with
      | inl e =>
        rw [hr8] at hr7
        obtain ⟨⟨x, hx⟩, hF⟩ := hr7
        cases hx
        refine pw_vret rfl dX6_whoHere_169 ?_
        exact ⟨rfl, rfl, hfall7, hF⟩
      | inr y =>
        rw [hr8] at hr7 hnf
        obtain ⟨hx, hR8⟩ := hr7
        cases hx
        have hn1 := hnf.1
        have e7 : ∀ a k, zai n7 a k = zai n6 a k := fun a k => (hf7.2 a (fun z => z) k).1
        have e3 : ∀ a k, zai n2 a k = zai n a k := fun a k => (hf3.2 a (fun z => z) k).1
        have E1 : ∀ k, k < T.length → ∀ c, zai n7 (at_readWho + 1 + k) c = zai n (at_readWho + 1 + k) c := fun k hk c => by
          rw [e7, hBo _ _ (fun z => by omega), h5o k (by omega) c, hAo _ (by omega), e3]
        have E2 : ∀ r, r < 220 → ∀ c, zai n7 (at_readCode + 1 + r) c = zai n5 (at_readCode + 1 + r) c := fun r hr c => by
          rw [e7, hBo _ _ (fun z => by have h1 : 1305 + 1 + r = 1073 + 1 + T.length := z.1; omega)]
        have E3 : ∀ r, r < i → ∀ c, zai n7 (at_readCode + 1 + r) c = zai n (at_readCode + 1 + r) c := fun r hr c => by
          rw [E2 r (by omega) c, hk5 r hr c, hAo _ (by show 1305 + 1 + r ≠ 1073 + 1 + T.length; omega), e3]
        refine pw_vret rfl dX6_whoHere_169 ?_
        refine ⟨rfl, rfl, hfall7, hR8, j, by omega, (rc_k hf7).trans hc6, ?_, fun k x hx => ?_⟩
        · rw [(hf7.1 aT tf_readWhos (fun z => by rcases z.2 with z | z | z | z <;> exact absurd z (by decide))).1, hw6, List.length_append]; rfl
        · by_cases hk : k < T.length
          · rw [List.getElem?_append_left hk] at hx
            obtain ⟨i1, j1, a1, a2, a3, a4, a5, a6⟩ := hrw k x hx
            exact ⟨i1, j1, a1, by omega, by rw [E1 k hk]; exact a3, by rw [E1 k hk]; exact a4, by rw [E1 k hk]; exact a5, a6.cg a1 (fun r hr c => E3 r (by omega) c)⟩
          · rw [List.getElem?_append_right (by omega)] at hx
            have hk0 : k = T.length := by
              have := (List.getElem?_eq_some_iff.mp hx).1
              simp only [List.length_cons, List.length_nil] at this
              omega
            subst hk0
            rw [Nat.sub_self] at hx
            cases hx
            refine ⟨i, j, hj1, Nat.le_refl _, ?_, ?_, ?_, hj4.cg hj1 (fun r hr c => E2 r (by omega) c)⟩
            · rw [e7, hBo _ _ (fun z => absurd z.2 (by decide)), h5o _ (by omega)]; exact hA0
            · rw [e7, hBo _ _ (fun z => absurd z.2 (by decide)), h5o _ (by omega)]; exact hA1
            · rw [e7]; exact hB2
  -- who is asked for
  have h59 : ∀ (w : Int32) (n1 : zg_N), w = (if pWho (tWd b N q) = 3 then -1 else nI (pWho (tWd b N q))) → TRd n1 b N q 0 → zFr rF rA n n1 → PW zm_X6_whoHere 34 (rW g n b N (pRw b N T q)) 0 0 59 [(0, .ref aT)] [.int w] g n1 := by
    intro w n1 hwe hR1 hf1
    have hwl := pWho_le (tWd b N q)
    have hw1 := nrw hf1
    subst hwe
    by_cases h3 : pWho (tWd b N q) = 3
    · rw [if_pos h3, show pRw b N T q = .inl (1, q) from if_pos h3]
      have hw := hR1.wr (k := 1) (q := q) (by decide) (by decide)
      refine pw_istore_n (ls' := [(1, _), (0, _)]) dX6_whoHere_59 rfl (by decide) rfl ?_
      refine pw_ls [1, 0] (ls' := [(0, _), (1, _)]) rfl ?_
      refine pw_iload_n dX6_whoHere_60 1 rfl rfl ?_
      refine pw_iconst (v := (-1)) dX6_whoHere_61 (by decide) ?_
      refine pw_icmp_ne 77 dX6_whoHere_62 (by decide) (fun c_62 => ?_) (fun c_62 => ?_)
      · exact absurd rfl c_62
      · refine pw_aload_n dX6_whoHere_65 0 rfl rfl ?_
        refine pw_iconst (v := 1) dX6_whoHere_66 (by decide) ?_
        refine pw_aload_n dX6_whoHere_67 0 rfl rfl ?_
        refine pw_geti 4 zc_X6 (ts_this hM) (by decide) q1990 (Or.inl rfl) dX6_whoHere_68 ?_
        rw [hR1.2.2.1]
        refine pw_callV2 zmM_X6_wrong rfl (lw_V q2226 q2228 qs70 q150 q2229) rfl (ts_this hM) zc_X6 (t_wrong hM _ _ hR1.2.1) (by decide) (Nat.le_refl _) (Nat.le_refl _) rfl (Nat.le_of_ble_eq_true rfl) (Nat.le_of_ble_eq_true rfl) dX6_whoHere_71 zE.nx (zE_kk ?_)
        refine pw_goto 95 dX6_whoHere_74 (by decide) ?_
        refine pw_aload_n dX6_whoHere_95 0 rfl rfl ?_
        refine pw_geti 5 zc_X6 (ts_this hM) (by decide) q1991 (Or.inl rfl) dX6_whoHere_96 ?_
        refine pw_if_eq 103 dX6_whoHere_99 (by decide) (fun c_99 => ?_) (fun c_99 => ?_)
        · exact absurd c_99 hw.1.ne
        · refine pw_vret rfl dX6_whoHere_102 ?_
          exact ⟨rfl, rfl, twF (rtF (hf1.tr hw.2)), hw.1⟩
    · rw [if_neg h3]
      have hw := hR1.wr (k := 3) (q := q) (by decide) (by decide)
      refine pw_istore_n (ls' := [(1, _), (0, _)]) dX6_whoHere_59 rfl (by decide) rfl ?_
      refine pw_ls [1, 0] (ls' := [(0, _), (1, _)]) rfl ?_
      refine pw_iload_n dX6_whoHere_60 1 rfl rfl ?_
      refine pw_iconst (v := (-1)) dX6_whoHere_61 (by decide) ?_
      refine pw_icmp_ne 77 dX6_whoHere_62 (by decide) (fun c_62 => ?_) (fun c_62 => ?_)
      · refine pw_aload_n dX6_whoHere_77 0 rfl rfl ?_
        refine pw_geti 26 zc_X6 (ts_this hM) (by decide) q2012 (Or.inl rfl) dX6_whoHere_78 ?_
        refine pw_bipush (v := 10) dX6_whoHere_81 (by decide) ?_
        rw [hw1]
        refine pw_icmp_ne_N (b := 10) 95 dX6_whoHere_83 (by decide) (by omega) (by omega) (fun c_83 => ?_) (fun c_83 => ?_)
        · refine pw_aload_n dX6_whoHere_95 0 rfl rfl ?_
          refine pw_geti 5 zc_X6 (ts_this hM) (by decide) q1991 (Or.inl rfl) dX6_whoHere_96 ?_
          refine pw_if_eq 103 dX6_whoHere_99 (by decide) (fun c_99 => ?_) (fun c_99 => ?_)
          · exact h103 _ n1 (by omega) rfl c_83 hR1 hf1
          · exact absurd hR1.2.1 c_99
        · refine pw_aload_n dX6_whoHere_86 0 rfl rfl ?_
          refine pw_iconst (v := 3) dX6_whoHere_87 (by decide) ?_
          refine pw_aload_n dX6_whoHere_88 0 rfl rfl ?_
          refine pw_geti 4 zc_X6 (ts_this hM) (by decide) q1990 (Or.inl rfl) dX6_whoHere_89 ?_
          rw [hR1.2.2.1]
          refine pw_callV2 zmM_X6_wrong rfl (lw_V q2226 q2228 qs70 q150 q2229) rfl (ts_this hM) zc_X6 (t_wrong hM _ _ hR1.2.1) (by decide) (Nat.le_refl _) (Nat.le_refl _) rfl (Nat.le_of_ble_eq_true rfl) (Nat.le_of_ble_eq_true rfl) dX6_whoHere_92 zE.nx (zE_kk ?_)
          refine pw_aload_n dX6_whoHere_95 0 rfl rfl ?_
          refine pw_geti 5 zc_X6 (ts_this hM) (by decide) q1991 (Or.inl rfl) dX6_whoHere_96 ?_
          refine pw_if_eq 103 dX6_whoHere_99 (by decide) (fun c_99 => ?_) (fun c_99 => ?_)
          · exact absurd c_99 hw.1.ne
          · refine pw_vret rfl dX6_whoHere_102 ?_
            rw [show pRw b N T q = .inl (3, q) from (if_neg h3).trans (if_pos c_83)]
            exact ⟨rfl, rfl, twF (rtF (hf1.tr hw.2)), hw.1⟩
      · exact absurd c_62 (fun z => by have := congrArg Int32.toInt z; rw [nI_toInt (by omega), show (-1 : Int32).toInt = -1 from by decide] at this; omega)
  refine pw_aload_n dX6_whoHere_0 0 rfl rfl ?_
  refine pw_iconst (v := 2) dX6_whoHere_1 (by decide) ?_
  refine pw_bipush (v := 15) dX6_whoHere_2 (by decide) ?_
  refine pw_bipush (v := 20) dX6_whoHere_4 (by decide) ?_
  refine pw_bipush (v := 8) dX6_whoHere_6 (by decide) ?_
  refine pw_iconst (v := 0) dX6_whoHere_8 (by decide) ?_
  refine pw_iconst (v := 0) dX6_whoHere_9 (by decide) ?_
  refine pw_callV6 zmM_X6_isWord rfl (lw_V q2212 q2214 qs68 q150 q2215) rfl (ts_this hM) zc_X6 (t_isWord hM hR wBoth (by decide)) (by decide) (Nat.le_refl _) (Nat.le_refl _) rfl (Nat.le_of_ble_eq_true rfl) (Nat.le_of_ble_eq_true rfl) dX6_whoHere_10 (by intros; rintro ⟨h, _⟩; cases h) (fun v1 g1 n1 h1 => ?_)
  obtain ⟨h1, rfl, hR1, hf1⟩ := h1; cases h1
  rw [hsk] at hR1 ⊢
  refine pw_if_eq_B 20 dX6_whoHere_13 (by decide) (fun c_13 => ?_) (fun c_13 => ?_)
  · refine pw_aload_n dX6_whoHere_20 0 rfl rfl ?_
    refine pw_bipush (v := 14) dX6_whoHere_21 (by decide) ?_
    refine pw_iconst (v := 5) dX6_whoHere_23 (by decide) ?_
    refine pw_bipush (v := 23) dX6_whoHere_24 (by decide) ?_
    refine pw_iconst (v := 0) dX6_whoHere_26 (by decide) ?_
    refine pw_iconst (v := 0) dX6_whoHere_27 (by decide) ?_
    refine pw_iconst (v := 0) dX6_whoHere_28 (by decide) ?_
    refine pw_callV6 zmM_X6_isWord rfl (lw_V q2212 q2214 qs68 q150 q2215) rfl (ts_this hM) zc_X6 (t_isWord hM hR1 wNew (by decide)) (by decide) (Nat.le_refl _) (Nat.le_refl _) rfl (Nat.le_of_ble_eq_true rfl) (Nat.le_of_ble_eq_true rfl) dX6_whoHere_29 (by intros; rintro ⟨h, _⟩; cases h) (fun v2 g2 n2 h2 => ?_)
    obtain ⟨h2, rfl, hR2, hf2⟩ := h2; cases h2
    rw [hsk] at hR2 ⊢
    replace hf2 := hf1.tr hf2
    refine pw_if_eq_B 39 dX6_whoHere_32 (by decide) (fun c_32 => ?_) (fun c_32 => ?_)
    · refine pw_aload_n dX6_whoHere_39 0 rfl rfl ?_
      refine pw_bipush (v := 15) dX6_whoHere_40 (by decide) ?_
      refine pw_bipush (v := 12) dX6_whoHere_42 (by decide) ?_
      refine pw_iconst (v := 4) dX6_whoHere_44 (by decide) ?_
      refine pw_iconst (v := 0) dX6_whoHere_45 (by decide) ?_
      refine pw_iconst (v := 0) dX6_whoHere_46 (by decide) ?_
      refine pw_iconst (v := 0) dX6_whoHere_47 (by decide) ?_
      refine pw_callV6 zmM_X6_isWord rfl (lw_V q2212 q2214 qs68 q150 q2215) rfl (ts_this hM) zc_X6 (t_isWord hM hR2 wOld (by decide)) (by decide) (Nat.le_refl _) (Nat.le_refl _) rfl (Nat.le_of_ble_eq_true rfl) (Nat.le_of_ble_eq_true rfl) dX6_whoHere_48 (by intros; rintro ⟨h, _⟩; cases h) (fun v3 g3 n3 h3 => ?_)
      obtain ⟨h3, rfl, hR3, hf3⟩ := h3; cases h3
      rw [hsk] at hR3 ⊢
      replace hf3 := hf2.tr hf3
      refine pw_if_eq_B 58 dX6_whoHere_51 (by decide) (fun c_51 => ?_) (fun c_51 => ?_)
      · refine pw_iconst (v := (-1)) dX6_whoHere_58 (by decide) ?_
        exact h59 _ n3 (by rw [show pWho (tWd b N q) = 3 from (if_neg c_13).trans ((if_neg c_32).trans (if_neg c_51))]; rfl) hR3 hf3
      · refine pw_iconst (v := 2) dX6_whoHere_54 (by decide) ?_
        refine pw_goto 59 dX6_whoHere_55 (by decide) ?_
        exact h59 _ n3 (by rw [show pWho (tWd b N q) = 2 from (if_neg c_13).trans ((if_neg c_32).trans (if_pos c_51))]; rfl) hR3 hf3
    · refine pw_iconst (v := 1) dX6_whoHere_35 (by decide) ?_
      refine pw_goto 59 dX6_whoHere_36 (by decide) ?_
      exact h59 _ n2 (by rw [show pWho (tWd b N q) = 1 from (if_neg c_13).trans (if_pos c_32)]; rfl) hR2 hf2
  · refine pw_iconst (v := 0) dX6_whoHere_16 (by decide) ?_
    refine pw_goto 59 dX6_whoHere_17 (by decide) ?_
    exact h59 _ n1 (by rw [show pWho (tWd b N q) = 0 from if_pos c_13]; rfl) hR1 hf1

/-! ===== the reference: tongue ===== -/
/-- a row as the state has it -/
def tRow (q : Nat × zW) : Nat × zG := (q.1, fun fc => decide (q.2 fc = 1))
def sTg (S : zS) (T : List (Nat × zW)) : zS := (zu2 S.1 0 7 0, S.2.1, zu2 S.2.2.1 1 0 (-1), T.map tRow)
theorem sTg_N {S : zS} {T : List (Nat × zW)} {a k : Nat} (h : ¬ (a = 0 ∧ k = 7)) : sN (sTg S T) a k = sN S a k := if_neg h
theorem sTg_7 {S : zS} {T : List (Nat × zW)} : sN (sTg S T) 0 7 = 0 := (show zu2 S.1 0 7 0 0 7 = 0 from zu2_s)
theorem WF.tg {S : zS} (h : WF S) {T : List (Nat × zW)} (hT : TOk T) : WF (sTg S T) := by
  obtain ⟨⟨a1, a2, a3, a4, a5, a6, a7, a8, a9⟩, b2, ⟨b3, b4⟩, b5, b6, b7, b8, b9, b10⟩ := h
  refine ⟨⟨a1, a2, a3, a4, a5, a6, a7, a8, by rw [sTg_7]; exact Nat.zero_le _⟩, b2, ⟨b3, b4⟩, fun k hk => ?_, fun i hi => ?_, b7, b8, ?_, fun q hq => ?_⟩
  · rw [sTg_7] at hk; exact absurd hk (Nat.not_lt_zero _)
  · have h := b6 i hi
    refine ⟨?_, ?_, fun k hk => ?_, ?_⟩
    · rw [sTg_N (by omega)]; exact h.1
    · rw [sTg_N (by omega)]; exact h.2.1
    · rw [sTg_N (by omega)]; exact h.2.2.1 k hk
    · rw [show (fun k => sN (sTg S T) (10 + i) (2 + k)) = (fun k => sN S (10 + i) (2 + k)) from funext fun k => sTg_N (by omega)]; exact h.2.2.2
  · show (T.map tRow).length ≤ 10
    rw [List.length_map]; exact hT.1
  · obtain ⟨x, hx, rfl⟩ := List.mem_map.mp (show q ∈ T.map tRow from hq)
    exact (hT.2 x hx).1
def tgF (a k : Nat) : Prop := tF a k ∨ (a = aT ∧ (k = tf_tape ∨ k = tf_place ∨ k = tf_whos))
def tgA (a : Nat) : Prop := tA a ∨ (at_who < a ∧ a ≤ at_who + 10) ∨ (at_code < a ∧ a ≤ at_code + 220)
theorem TW.tongue {n n' : zg_N} {S : zS} (h : TW n S) (hW : WF S) (T : List (Nat × zW)) (hf : zFr tgF tgA n n') (h1 : zfi n' aT tf_tape = 0) (h2 : zfi n' aT tf_place = -1) (hT : TWg n' (T.map tRow)) : TW n' (sTg S T) := by
  have hi : ∀ k, k = tf_question ∨ k = tf_images → zfi n' aT k = zfi n aT k ∧ zfl n' aT k = zfl n aT k := fun k hk => hf.1 _ _ (fun q => by
    rcases q with q | ⟨_, q | q | q⟩
    · unfold tF at q; omega
    all_goals (rw [q] at hk; revert hk; decide))
  have hi3 : sN S 0 6 ≤ 3 := hW.imgs
  have na : ∀ a, (a = at_told ∨ a = at_models ∨ a = at_seeWeek ∨ a = at_seen ∨ a = at_leftIn ∨ a = at_order ∨ a = at_refused ∨ (∃ i, i < 3 ∧ a = at_kept + 1 + i)) → ¬ tgA a := fun a h q => by
    unfold tgA tA at q
    rcases h with rfl | rfl | rfl | rfl | rfl | rfl | rfl | ⟨i, h, rfl⟩
    iterate 7 (revert q; decide)
    unfold at_kept at_who at_code at_fed at_refused at_told at_seeWeek at_models at_seen at_leftIn at_order aT at q
    omega
  have ha : ∀ a, _ → ∀ j, zai n' a j = zai n a j := fun a q j => (hf.2 a (na a q) j).1
  have hb : ∀ a, _ → ∀ j, zal n' a j = zal n a j := fun a q j => (hf.2 a (na a q) j).2
  obtain ⟨a1, a2, a3, a4, a5, a6, ⟨a7, a8⟩, ⟨a9, a10⟩, a11, a12, -⟩ := h
  have h01 : sN (sTg S T) 0 1 = sN S 0 1 := sTg_N (by decide)
  have h03 : sN (sTg S T) 0 3 = sN S 0 3 := sTg_N (by decide)
  have h02 : sN (sTg S T) 0 2 = sN S 0 2 := sTg_N (by decide)
  have h06 : sN (sTg S T) 0 6 = sN S 0 6 := sTg_N (by decide)
  refine ⟨fun k hk => ?_, fun k hk => ?_, fun k hk => ⟨?_, ?_⟩, fun k hk => ?_, fun k hk => ?_, ((hi _ (Or.inl rfl)).2).trans a6, ⟨?_, fun i hi2 j hj => ?_⟩, ⟨h1.trans (by rw [sTg_7]; rfl), fun k hk => ?_⟩, h2.trans (show (-1 : Int32) = zu2 S.2.2.1 1 0 (-1) 1 0 from zu2_s.symm), fun k hk => ?_, hT⟩
  · rw [ha at_told (by simp), sTg_N (by omega)]; exact a1 k hk
  · unfold okb at hk; rw [h01, h03] at hk
    rw [hb at_models (by simp)]; exact a2 k hk
  · rw [h02] at hk; rw [ha at_seeWeek (by simp), sTg_N (by omega)]; exact (a3 k hk).1
  · rw [h02] at hk; rw [hb at_seen (by simp)]; exact (a3 k hk).2
  · rw [hb at_leftIn (by simp)]; exact a4 k hk
  · rw [ha at_order (by simp), sTg_N (by omega)]; exact a5 k hk
  · rw [(hi _ (Or.inr rfl)).1, h06]; exact a7
  · rw [h06] at hi2; rw [ha (at_kept + 1 + i) (Or.inr (Or.inr (Or.inr (Or.inr (Or.inr (Or.inr (Or.inr ⟨i, by omega, rfl⟩))))))), sTg_N (by omega)]; exact a8 i hi2 j hj
  · rw [sTg_7] at hk; exact absurd hk (Nat.not_lt_zero _)
  · rw [ha at_refused (by simp)]
    show _ = zu2 S.2.2.1 1 0 (-1) 0 k
    rw [zu2_b (by decide)]; exact a12 k hk
def sp_tongue (S : zS) (x : Int32) : Int32 × Value × zS := spNeed S (inB x (sN S 0 7 + 1) && decide (x ≤ 200)) 1 1 (.int 0) (match pTg (sN S 3) x.toNatClampNeg with
  | .inl e => (0, .int (nI e.1 - 10), sMisc S 0 (nI e.2) (sL S 3 0))
  | .inr q => (0, .int (nI q.1.length), sTg S q.1))
theorem wwF_tF : ∀ a k, wwF a k → tF a k := fun a k h => by
  rcases h with (h | ⟨rfl, rfl⟩) | ⟨rfl, rfl⟩
  · exact rF_tF a k h
  · exact ⟨rfl, by decide, by decide, by decide, by decide, by decide⟩
  · exact ⟨rfl, by decide, by decide, by decide, by decide, by decide⟩
theorem wwA_tA : ∀ a, wwA a → tA a := fun a h => by
  have h2 : 1073 < a ∧ a ≤ 1525 := by
    rcases h with ⟨h1, h2⟩ | ⟨h1, h2⟩
    · have : 1305 < a := h1; have : a ≤ 1305 + 220 := h2; omega
    · have : 1073 < a := h1; have : a ≤ 1073 + 10 := h2; omega
  have h3 : ¬ (1084 < a ∧ a ≤ 1304) := by
    rcases h with ⟨h1, h2⟩ | ⟨h1, h2⟩
    · have : 1305 < a := h1; omega
    · have : a ≤ 1073 + 10 := h2; omega
  unfold tA
  refine ⟨by show 1045 < a; omega, by omega, ?_, ?_, ?_, ?_, ?_, ?_, ?_, ?_, ?_, ?_, ?_⟩
  · show a ≠ 1046; omega
  · show a ≠ 1047; omega
  · show a ≠ 1049; omega
  · show a ≠ 1051; omega
  · show a ≠ 1053; omega
  · show a ≠ 1055; omega
  · show a ≠ 1056; omega
  · show a ≠ 1057; omega
  · show ¬ (1058 < a ∧ a ≤ 1058 + 3); omega
  · show ¬ (1062 < a ∧ a ≤ 1062 + 10); omega
  · show ¬ (1084 < a ∧ a ≤ 1084 + 220); omega
def tlF (a k : Nat) : Prop := wwF a k ∨ (a = aT ∧ (k = tf_tape ∨ k = tf_size ∨ k = tf_clauses))
theorem tlF_mx : ∀ a k, tlF a k → mxF a k := fun a k h => by
  rcases h with h | ⟨rfl, rfl | rfl | rfl⟩
  · exact Or.inl (wwF_tF a k h)
  · exact Or.inr ⟨rfl, Or.inl rfl⟩
  · exact Or.inl ⟨rfl, by decide, by decide, by decide, by decide, by decide⟩
  · exact Or.inl ⟨rfl, by decide, by decide, by decide, by decide, by decide⟩
theorem tlF_no {k : Nat} (h : k = tf_thrown ∨ k = tf_question) : ¬ tlF aT k := fun z => by
  rcases z with ((⟨_, z | z | z | z⟩ | ⟨_, z⟩) | ⟨_, z⟩) | ⟨_, z | z | z⟩ <;> rw [z] at h <;> revert h <;> decide
theorem wwF_no {k : Nat} (h : k = tf_tape ∨ k = tf_place) : ¬ wwF aT k := fun z => by
  rcases z with (⟨_, z | z | z | z⟩ | ⟨_, z⟩) | ⟨_, z⟩ <;> rw [z] at h <;> revert h <;> decide
theorem tlF_X : ∀ a k, tlF a k → tXF a k := fun a k h => by
  rcases h with ((⟨h, _⟩ | ⟨h, _⟩) | ⟨h, _⟩) | ⟨h, _⟩ <;> exact h
theorem wwA_X : ∀ a, wwA a → tXA a := fun a h => tA_X a (wwA_tA a h)
theorem t_failed2 {g : zg_G} {n n0 n1 : zg_N} {S : zS} (hT0 : TW n0 S) (hW : WF S) (hth0 : zfi n0 aT tf_thrown = 0) (hf0 : zFr tXF tXA n n0) {e : Nat × Nat} (hF : TFl n1 e) (ht : zfi n1 aT tf_tape = 0) (hf : zFr tlF wwA n0 n1) : tQ g n (0, .int (nI e.1 - 10), sMisc S 0 (nI e.2) (sL S 3 0)) (.inl (some (.int (nI e.1 - 10)))) g (zpfi n1 aT tf_place (zfi n1 aT tf_faultAt)) := by
  have h1 := hf.mono tlF_mx wwA_tA
  have hf2 := h1.pfi (v := zfi n1 aT tf_faultAt) (show mxF aT tf_place from Or.inr ⟨rfl, Or.inr (Or.inl rfl)⟩)
  refine ⟨rfl, rfl, ?_, ((hf.1 aT tf_thrown (tlF_no (Or.inl rfl))).1).trans hth0, hf0.tr ((hf.mono tlF_X wwA_X).pfi rfl)⟩
  exact hT0.misc hW 0 _ _ hf2 ht (Nat.zero_le _) hF.2.1 (((hf.1 aT tf_question (tlF_no (Or.inr rfl))).2).trans hT0.qu)
/-- rows and codes, copied: what stands then -/
theorem TWg.of {n1 n2 : zg_N} {T : List (Nat × zW)} {j : Nat} (hj : j ≤ 200) (hT : TOk T) (hr : TRw n1 T j) (h1 : zfi n2 aT tf_whos = nI T.length) (hw : ∀ k, k < T.length → ∀ c, c < 3 → zai n2 (at_who + 1 + k) c = zai n1 (at_readWho + 1 + k) c) (hc : ∀ k, k < j → ∀ c, c < 2 → zai n2 (at_code + 1 + k) c = zai n1 (at_readCode + 1 + k) c) : TWg n2 (T.map tRow) := by
  refine ⟨by rw [h1, List.length_map], fun k => ((zai n1 (at_readCode + 1 + k) 0).toBitVec.toNat, zai n1 (at_readCode + 1 + k) 1), j, hj, fun k hk => ⟨?_, hc k hk 1 (by decide)⟩, fun k q hq => ?_⟩
  · rw [hc k hk 0 (by decide)]
    apply Int32.toBitVec_inj.mp
    show _ = BitVec.ofNat 32 (zai n1 (at_readCode + 1 + k) 0).toBitVec.toNat
    rw [BitVec.ofNat_toNat, BitVec.setWidth_eq]
  · rw [List.getElem?_map] at hq
    cases hx : T[k]? with
    | none => rw [hx] at hq; cases hq
    | some x =>
      rw [hx] at hq
      cases hq
      have hk : k < T.length := (List.getElem?_eq_some_iff.mp hx).1
      have hxm : x ∈ T := List.mem_of_getElem? hx
      obtain ⟨i1, j1, a1, a2, a3, a4, a5, a6⟩ := hr k x hx
      have ec : ∀ r, i1 ≤ r → r < i1 + (j1 - i1) → ((zai n1 (at_readCode + 1 + r) 0).toBitVec.toNat, zai n1 (at_readCode + 1 + r) 1) = cO n1 r := fun r h1 h2 => by
        have h3 := a6.2.2 r h1 (by omega)
        have h4 : (cO n1 r).1 < 2147483648 := by
          unfold cO
          have := Int32.toInt_lt (zai n1 (at_readCode + 1 + r) 0)
          show (zai n1 (at_readCode + 1 + r) 0).toInt.toNat < _
          omega
        refine Prod.ext ?_ rfl
        show (zai n1 (at_readCode + 1 + r) 0).toBitVec.toNat = (cO n1 r).1
        rw [h3]
        show (BitVec.ofNat 32 (cO n1 r).1).toNat = _
        rw [BitVec.toNat_ofNat, Nat.mod_eq_of_lt (by omega)]
      refine ⟨i1, j1 - i1, by omega, ?_, ?_, ?_, ?_, fun fc => ?_⟩
      · rw [hw k hk 0 (by decide)]; exact a3
      · rw [hw k hk 1 (by decide)]; exact a4
      · rw [hw k hk 2 (by decide), a5, show i1 + (j1 - i1) = j1 by omega]
      · exact tOk_cg _ _ _ _ ec (a6.1 0)
      · rw [tRun_cg fc _ _ _ ec, a6.2.1]
        show [x.2 fc] = [if decide (x.2 fc = 1) = true then 1 else 0]
        rcases (hT.2 x hxm).2 fc with h | h <;> rw [h] <;> decide
theorem t_tongue {g : zg_G} {n : zg_N} {S : zS} (hM : TSh g) (hT : TW n S) (hW : WF S) (x : Int32) : PW zm_X6_tongue 36 (tQ g n (sp_tongue S x)) 0 0 0 [(0, .ref aT), (1, .int x)] [] g n := by
  have h600 := hW.taped
  -- what was read stands
  have h107 : ∀ (N : Nat) (n0 n1 : zg_N) (T : List (Nat × zW)) (j : Nat), TW n0 S → zfi n0 aT tf_thrown = 0 → zFr tXF tXA n n0 → TOk T → TRw n1 T j → j ≤ 200 → zfi n1 aT tf_readCodes = nI j → zfi n1 aT tf_readWhos = nI T.length → zfi n1 aT tf_tape = 0 → zfi n1 aT tf_place = -1 → zFr (fun a k => tlF a k ∨ (a = aT ∧ k = tf_place)) wwA n0 n1 →
      PW zm_X6_tongue 36 (tQ g n (0, .int (nI T.length), sTg S T)) 0 0 107 [(0, .ref aT), (1, .int x)] [] g n1 := by
    intro N n0 n1 T j hT0 hth0 hf0 hTo hr hj hjc hwc ht hpl hf
    have hl10 := hTo.1
    have hwr : ∀ {k : Nat}, k < 10 → at_who < at_who + 1 + k ∧ at_who + 1 + k ≤ at_who + 10 := fun {k} hk => ⟨by show 1062 < 1062 + 1 + k; omega, by show 1062 + 1 + k ≤ 1062 + 10; omega⟩
    have hcr : ∀ {k : Nat}, k < 220 → at_code < at_code + 1 + k ∧ at_code + 1 + k ≤ at_code + 220 := fun {k} hk => ⟨by show 1084 < 1084 + 1 + k; omega, by show 1084 + 1 + k ≤ 1084 + 220; omega⟩
    -- the codes
    have h170 : ∀ n2, zFr (fun a k => a = aT ∧ (k = tf_whos ∨ k = tf_codes)) (fun a => at_who < a ∧ a ≤ at_who + 10) n1 n2 → zfi n2 aT tf_whos = nI T.length → zfi n2 aT tf_codes = nI j → (∀ k, k < T.length → ∀ c, c < 3 → zai n2 (at_who + 1 + k) c = zai n1 (at_readWho + 1 + k) c) →
        ∀ k, k ≤ j → ∀ n3, zFr zB0 (fun a => at_code < a ∧ a ≤ at_code + 220) n2 n3 → (∀ r, r < k → ∀ c, c < 2 → zai n3 (at_code + 1 + r) c = zai n1 (at_readCode + 1 + r) c) → PW zm_X6_tongue 36 (tQ g n (0, .int (nI T.length), sTg S T)) 0 0 170 [(0, .ref aT), (1, .int x), (2, .int (nI k))] [] g n3 := by
      intro n2 hf2 hw2 hc2 hrows
      have erc : ∀ n3, zFr zB0 (fun a => at_code < a ∧ a ≤ at_code + 220) n2 n3 → ∀ r, r < 220 → ∀ c, zai n3 (at_readCode + 1 + r) c = zai n1 (at_readCode + 1 + r) c := fun n3 hf3 r hr c =>
        ((hf3.2 _ (fun z => by have h1 : 1305 + 1 + r ≤ 1084 + 220 := z.2; omega) c).1).trans (hf2.2 _ (fun z => by have h1 : 1305 + 1 + r ≤ 1062 + 10 := z.2; omega) c).1
      refine zl_up j (fun k hk ih n3 hf3 hcs => ?_)
      have h180 : ∀ c, c ≤ 2 → ∀ n4, k < j → zFr zB0 (fun a => at_code < a ∧ a ≤ at_code + 220) n2 n4 → (∀ r, r < k → ∀ c, c < 2 → zai n4 (at_code + 1 + r) c = zai n1 (at_readCode + 1 + r) c) → (∀ c', c' < c → zai n4 (at_code + 1 + k) c' = zai n1 (at_readCode + 1 + k) c') → PW zm_X6_tongue 36 (tQ g n (0, .int (nI T.length), sTg S T)) 0 0 180 [(0, .ref aT), (1, .int x), (2, .int (nI k)), (3, .int (nI c))] [] g n4 := by
        refine zl_up 2 (fun c hc ih2 n4 hkj hf4 hcs4 hrow => ?_)
        refine pw_iload_n dX6_tongue_180 3 rfl rfl ?_
        refine pw_iconst (v := 2) dX6_tongue_181 (by decide) ?_
        refine pw_icmp_ge_N (b := 2) 207 dX6_tongue_182 (by decide) (by omega) (by omega) (fun c_182 => ?_) (fun c_182 => ?_)
        · refine pw_iinc1 (j := 2) (ls' := [(2, _), (0, _), (1, _), (3, _)]) dX6_tongue_207 rfl (by decide) rfl ?_
          refine pw_ls [1, 2, 0, 3] (ls' := [(0, _), (1, _), (2, _), (3, _)]) rfl ?_
          refine pw_goto 170 dX6_tongue_210 (by decide) ?_
          refine pw_ls [0, 1, 2] (ls' := [(0, _), (1, _), (2, _)]) rfl ?_
          refine ih (k + 1) (by omega) (by omega) n4 hf4 (fun r hr c' hc' => ?_)
          by_cases e : r = k
          · subst e; exact hrow c' (by omega)
          · exact hcs4 r (by omega) c' hc'
        · refine pw_aload_n dX6_tongue_185 0 rfl rfl ?_
          refine pw_getr 31 zc_X6 (ts_this hM) (by decide) q2017 (Or.inr ⟨_, rfl⟩) (tr_code hM) dX6_tongue_186 ?_
          refine pw_iload_n dX6_tongue_189 2 rfl rfl ?_
          refine pw_aald k rfl (ts_code hM) rfl (Or.inr ⟨_, rfl⟩) (tw_code hM k (by omega)) (by omega) (by decide) dX6_tongue_190 ?_
          refine pw_iload_n dX6_tongue_191 3 rfl rfl ?_
          refine pw_aload_n dX6_tongue_192 0 rfl rfl ?_
          refine pw_getr 32 zc_X6 (ts_this hM) (by decide) q2018 (Or.inr ⟨_, rfl⟩) (tr_readCode hM) dX6_tongue_193 ?_
          refine pw_iload_n dX6_tongue_196 2 rfl rfl ?_
          refine pw_aald k rfl (ts_readCode hM) rfl (Or.inr ⟨_, rfl⟩) (tw_readCode hM k (by omega)) (by omega) (by decide) dX6_tongue_197 ?_
          refine pw_iload_n dX6_tongue_198 3 rfl rfl ?_
          refine pw_iald c rfl (tv_readCode hM k (by omega)) (by omega) (by decide) dX6_tongue_199 ?_
          rw [erc n4 hf4 k (by omega) c]
          refine pw_iast c rfl (tv_code hM k (by omega)) (zK_e (by decide)) (by omega) (by decide) dX6_tongue_200 ?_
          refine pw_iinc1 (j := 3) (ls' := [(3, _), (0, _), (1, _), (2, _)]) dX6_tongue_201 rfl (by decide) rfl ?_
          refine pw_ls [1, 2, 3, 0] (ls' := [(0, _), (1, _), (2, _), (3, _)]) rfl ?_
          refine pw_goto 180 dX6_tongue_204 (by decide) ?_
          refine ih2 (c + 1) (by omega) (by omega) _ hkj (hf4.pai (hcr (by omega))) (fun r hr c' hc' => ?_) (fun c' hc' => ?_)
          · rw [zai_p, if_neg (fun z => by omega)]; exact hcs4 r hr c' hc'
          · rw [zai_p]
            by_cases e : c' = c
            · subst e; rw [if_pos ⟨rfl, rfl⟩]
            · rw [if_neg (fun z => e z.2)]; exact hrow c' (by omega)
      refine pw_iload_n dX6_tongue_170 2 rfl rfl ?_
      refine pw_aload_n dX6_tongue_171 0 rfl rfl ?_
      refine pw_geti 27 zc_X6 (ts_this hM) (by decide) q2013 (Or.inl rfl) dX6_tongue_172 ?_
      rw [show zfi n3 aT tf_codes = nI j from ((hf3.1 aT tf_codes (fun z => z)).1).trans hc2]
      refine pw_icmp_ge_N 213 dX6_tongue_175 (by decide) (by omega) (by omega) (fun c_175 => ?_) (fun c_175 => ?_)
      · refine pw_aload_n dX6_tongue_213 0 rfl rfl ?_
        refine pw_geti 25 zc_X6 (ts_this hM) (by decide) q2011 (Or.inl rfl) dX6_tongue_214 ?_
        rw [show zfi n3 aT tf_whos = nI T.length from ((hf3.1 aT tf_whos (fun z => z)).1).trans hw2]
        refine pw_iret rfl dX6_tongue_217 ?_
        have e3 : ∀ k, k = tf_tape ∨ k = tf_place ∨ k = tf_thrown → zfi n3 aT k = zfi n1 aT k := fun k hk => ((hf3.1 aT k (fun z => z)).1).trans (hf2.1 aT k (fun z => by rcases z.2 with z | z <;> rw [z] at hk <;> revert hk <;> decide)).1
        have hfa : zFr tgF tgA n0 n3 := (hf.mono (fun a k z => by
            rcases z with z | ⟨rfl, rfl⟩
            · rcases tlF_mx a k z with z | ⟨rfl, z | z | z⟩
              · exact Or.inl z
              · exact Or.inr ⟨rfl, Or.inl z⟩
              · exact Or.inr ⟨rfl, Or.inr (Or.inl z)⟩
              · subst z; exact absurd ‹tlF aT tf_question› (tlF_no (Or.inr rfl))
            · exact Or.inr ⟨rfl, Or.inr (Or.inl rfl)⟩) (fun a z => Or.inl (wwA_tA a z))).tr ((hf2.mono (fun a k z => by
            rcases z with ⟨rfl, rfl | rfl⟩
            · exact Or.inr ⟨rfl, Or.inr (Or.inr rfl)⟩
            · exact Or.inl ⟨rfl, by decide, by decide, by decide, by decide, by decide⟩) (fun a z => Or.inr (Or.inl z))).tr (hf3.mono (fun _ _ z => z.elim) (fun a z => Or.inr (Or.inr z))))
        have hfx : zFr tXF tXA n1 n3 := (hf2.mono (fun a k z => z.1) (fun a z => ⟨by have h1 : 1062 < a := z.1; show 1045 < a; omega, by have h1 : a ≤ 1062 + 10 := z.2; omega⟩)).tr (hf3.mono (fun _ _ z => z.elim) (fun a z => ⟨by have h1 : 1084 < a := z.1; show 1045 < a; omega, by have h1 : a ≤ 1084 + 220 := z.2; omega⟩))
        refine ⟨rfl, rfl, hT0.tongue hW T hfa ((e3 _ (Or.inl rfl)).trans ht) ((e3 _ (Or.inr (Or.inl rfl))).trans hpl) (TWg.of hj hTo hr (((hf3.1 aT tf_whos (fun z => z)).1).trans hw2) (fun k hk c hc => ?_) (fun r hr c hc => hcs r (by omega) c hc)), ?_, hf0.tr ((hf.mono (fun a k z => by rcases z with z | z; (exact tlF_X a k z); exact z.1) wwA_X).tr hfx)⟩
        · rw [(hf3.2 _ (fun z => by have h1 : 1084 < 1062 + 1 + k := z.1; omega) c).1]; exact hrows k hk c hc
        · refine (e3 _ (Or.inr (Or.inr rfl))).trans (((hf.1 aT tf_thrown (fun z => by rcases z with z | ⟨_, z⟩; (exact tlF_no (Or.inl rfl) z); exact absurd z (by decide))).1).trans hth0)
      · refine pw_iconst (v := 0) dX6_tongue_178 (by decide) ?_
        refine pw_istore_n (ls' := [(3, _), (0, _), (1, _), (2, _)]) dX6_tongue_179 rfl (by decide) rfl ?_
        refine pw_ls [1, 2, 3, 0] (ls' := [(0, _), (1, _), (2, _), (3, _)]) rfl ?_
        exact h180 0 (Nat.zero_le _) n3 (by omega) hf3 hcs (fun c' h => absurd h (Nat.not_lt_zero _))
    have h125 : ∀ n1', zFr (fun a k => a = aT ∧ (k = tf_whos ∨ k = tf_codes)) (fun _ => False) n1 n1' → zfi n1' aT tf_whos = nI T.length → zfi n1' aT tf_codes = nI j →
        ∀ k, k ≤ T.length → ∀ n2, zFr zB0 (fun a => at_who < a ∧ a ≤ at_who + 10) n1' n2 → (∀ r, r < k → ∀ c, c < 3 → zai n2 (at_who + 1 + r) c = zai n1 (at_readWho + 1 + r) c) → PW zm_X6_tongue 36 (tQ g n (0, .int (nI T.length), sTg S T)) 0 0 125 [(0, .ref aT), (1, .int x), (2, .int (nI k))] [] g n2 := by
      intro n1' hf1' hw1' hc1'
      have erc : ∀ n2, zFr zB0 (fun a => at_who < a ∧ a ≤ at_who + 10) n1' n2 → ∀ r, r < 10 → ∀ c, zai n2 (at_readWho + 1 + r) c = zai n1 (at_readWho + 1 + r) c := fun n2 hf2 r hr c =>
        ((hf2.2 _ (fun z => by have h1 : 1073 + 1 + r ≤ 1062 + 10 := z.2; omega) c).1).trans (hf1'.2 _ (fun z => z) c).1
      refine zl_up _ (fun k hk ih n2 hf2 hcs => ?_)
      have h135 : ∀ c, c ≤ 3 → ∀ n4, k < T.length → zFr zB0 (fun a => at_who < a ∧ a ≤ at_who + 10) n1' n4 → (∀ r, r < k → ∀ c, c < 3 → zai n4 (at_who + 1 + r) c = zai n1 (at_readWho + 1 + r) c) → (∀ c', c' < c → zai n4 (at_who + 1 + k) c' = zai n1 (at_readWho + 1 + k) c') → PW zm_X6_tongue 36 (tQ g n (0, .int (nI T.length), sTg S T)) 0 0 135 [(0, .ref aT), (1, .int x), (2, .int (nI k)), (3, .int (nI c))] [] g n4 := by
        refine zl_up 3 (fun c hc ih2 n4 hkj hf4 hcs4 hrow => ?_)
        refine pw_iload_n dX6_tongue_135 3 rfl rfl ?_
        refine pw_iconst (v := 3) dX6_tongue_136 (by decide) ?_
        refine pw_icmp_ge_N (b := 3) 162 dX6_tongue_137 (by decide) (by omega) (by omega) (fun c_137 => ?_) (fun c_137 => ?_)
        · refine pw_iinc1 (j := 2) (ls' := [(2, _), (0, _), (1, _), (3, _)]) dX6_tongue_162 rfl (by decide) rfl ?_
          refine pw_ls [1, 2, 0, 3] (ls' := [(0, _), (1, _), (2, _), (3, _)]) rfl ?_
          refine pw_goto 125 dX6_tongue_165 (by decide) ?_
          refine pw_ls [0, 1, 2] (ls' := [(0, _), (1, _), (2, _)]) rfl ?_
          refine ih (k + 1) (by omega) (by omega) n4 hf4 (fun r hr c' hc' => ?_)
          by_cases e : r = k
          · subst e; exact hrow c' (by omega)
          · exact hcs4 r (by omega) c' hc'
        · refine pw_aload_n dX6_tongue_140 0 rfl rfl ?_
          refine pw_getr 29 zc_X6 (ts_this hM) (by decide) q2015 (Or.inr ⟨_, rfl⟩) (tr_who hM) dX6_tongue_141 ?_
          refine pw_iload_n dX6_tongue_144 2 rfl rfl ?_
          refine pw_aald k rfl (ts_who hM) rfl (Or.inr ⟨_, rfl⟩) (tw_who hM k (by omega)) (by omega) (by decide) dX6_tongue_145 ?_
          refine pw_iload_n dX6_tongue_146 3 rfl rfl ?_
          refine pw_aload_n dX6_tongue_147 0 rfl rfl ?_
          refine pw_getr 30 zc_X6 (ts_this hM) (by decide) q2016 (Or.inr ⟨_, rfl⟩) (tr_readWho hM) dX6_tongue_148 ?_
          refine pw_iload_n dX6_tongue_151 2 rfl rfl ?_
          refine pw_aald k rfl (ts_readWho hM) rfl (Or.inr ⟨_, rfl⟩) (tw_readWho hM k (by omega)) (by omega) (by decide) dX6_tongue_152 ?_
          refine pw_iload_n dX6_tongue_153 3 rfl rfl ?_
          refine pw_iald c rfl (tv_readWho hM k (by omega)) (by omega) (by decide) dX6_tongue_154 ?_
          rw [erc n4 hf4 k (by omega) c]
          refine pw_iast c rfl (tv_who hM k (by omega)) (zK_e (by decide)) (by omega) (by decide) dX6_tongue_155 ?_
          refine pw_iinc1 (j := 3) (ls' := [(3, _), (0, _), (1, _), (2, _)]) dX6_tongue_156 rfl (by decide) rfl ?_
          refine pw_ls [1, 2, 3, 0] (ls' := [(0, _), (1, _), (2, _), (3, _)]) rfl ?_
          refine pw_goto 135 dX6_tongue_159 (by decide) ?_
          refine ih2 (c + 1) (by omega) (by omega) _ hkj (hf4.pai (hwr (by omega))) (fun r hr c' hc' => ?_) (fun c' hc' => ?_)
          · rw [zai_p, if_neg (fun z => by omega)]; exact hcs4 r hr c' hc'
          · rw [zai_p]
            by_cases e : c' = c
            · subst e; rw [if_pos ⟨rfl, rfl⟩]
            · rw [if_neg (fun z => e z.2)]; exact hrow c' (by omega)
      refine pw_iload_n dX6_tongue_125 2 rfl rfl ?_
      refine pw_aload_n dX6_tongue_126 0 rfl rfl ?_
      refine pw_geti 25 zc_X6 (ts_this hM) (by decide) q2011 (Or.inl rfl) dX6_tongue_127 ?_
      rw [show zfi n2 aT tf_whos = nI T.length from ((hf2.1 aT tf_whos (fun z => z)).1).trans hw1']
      refine pw_icmp_ge_N 168 dX6_tongue_130 (by decide) (by omega) (by omega) (fun c_130 => ?_) (fun c_130 => ?_)
      · refine pw_iconst (v := 0) dX6_tongue_168 (by decide) ?_
        refine pw_istore_n (ls' := [(2, _), (0, _), (1, _)]) dX6_tongue_169 rfl (by decide) rfl ?_
        refine pw_ls [1, 2, 0] (ls' := [(0, _), (1, _), (2, _)]) rfl ?_
        exact h170 n2 ((hf1'.mono (fun _ _ z => z) (fun _ z => z.elim)).tr (hf2.mono (fun _ _ z => z.elim) (fun _ z => z))) (((hf2.1 aT tf_whos (fun z => z)).1).trans hw1') (((hf2.1 aT tf_codes (fun z => z)).1).trans hc1') (fun k2 hk2 c hc => hcs k2 (by omega) c hc) 0 (Nat.zero_le _) n2 zFr.rf (fun r h => absurd h (Nat.not_lt_zero _))
      · refine pw_iconst (v := 0) dX6_tongue_133 (by decide) ?_
        refine pw_istore_n (ls' := [(3, _), (0, _), (1, _), (2, _)]) dX6_tongue_134 rfl (by decide) rfl ?_
        refine pw_ls [1, 2, 3, 0] (ls' := [(0, _), (1, _), (2, _), (3, _)]) rfl ?_
        exact h135 0 (Nat.zero_le _) n2 (by omega) hf2 hcs (fun c' h => absurd h (Nat.not_lt_zero _))
    refine pw_aload_n dX6_tongue_107 0 rfl rfl ?_
    refine pw_aload_n dX6_tongue_108 0 rfl rfl ?_
    refine pw_geti 26 zc_X6 (ts_this hM) (by decide) q2012 (Or.inl rfl) dX6_tongue_109 ?_
    rw [hwc]
    refine pw_puti 25 zc_X6 (ts_this hM) (by decide) (by decide) q2011 rfl (Or.inl rfl) rfl rfl dX6_tongue_112 ?_
    refine pw_aload_n dX6_tongue_115 0 rfl rfl ?_
    refine pw_aload_n dX6_tongue_116 0 rfl rfl ?_
    refine pw_geti 28 zc_X6 (ts_this hM) (by decide) q2014 (Or.inl rfl) dX6_tongue_117 ?_
    rw [show zfi (zpfi n1 aT tf_whos (nI T.length)) aT tf_readCodes = nI j from hjc]
    refine pw_puti 27 zc_X6 (ts_this hM) (by decide) (by decide) q2013 rfl (Or.inl rfl) rfl rfl dX6_tongue_120 ?_
    refine pw_iconst (v := 0) dX6_tongue_123 (by decide) ?_
    refine pw_istore_n (ls' := [(2, _), (0, _), (1, _)]) dX6_tongue_124 rfl (by decide) rfl ?_
    refine pw_ls [1, 2, 0] (ls' := [(0, _), (1, _), (2, _)]) rfl ?_
    exact h125 _ ((zFr.rf.pfi ⟨rfl, Or.inl rfl⟩).pfi ⟨rfl, Or.inr rfl⟩) rfl rfl 0 (Nat.zero_le _) _ zFr.rf (fun r h => absurd h (Nat.not_lt_zero _))
  have hlp : ∀ (N : Nat) (n0 : zg_N), N ≤ 200 → TW n0 S → zfi n0 aT tf_thrown = 0 → zFr tXF tXA n n0 → sp_tongue S x = (match pTg (sN S 3) N with | .inl e => (0, .int (nI e.1 - 10), sMisc S 0 (nI e.2) (sL S 3 0)) | .inr q => (0, .int (nI q.1.length), sTg S q.1)) →
      ∀ m T p n1 i, pTg (sN S 3) N = pTr (sN S 3) N m T p → pOk (pTr (sN S 3) N m T p) → skp (sN S 3) N p = p → TOk T → TRw n1 T i → i ≤ p → zfi n1 aT tf_readCodes = nI i → zfi n1 aT tf_readWhos = nI T.length → TRd n1 (sN S 3) N p 0 → zfi n1 aT tf_tape = 0 → zFr tlF wwA n0 n1 →
      PW zm_X6_tongue 36 (tQ g n (sp_tongue S x)) 0 0 55 [(0, .ref aT), (1, .int x)] [] g n1 := by
    intro N n0 hN hT0 hth0 hf0 hsp m
    induction m with
    | zero => intro T p n1 i _ hok; exact absurd rfl hok
    | succ m ih =>
      intro T p n1 i he hok hsk hTo hr hip hic hwc hR ht hf
      rw [pTr] at he hok
      refine pw_aload_n dX6_tongue_55 0 rfl rfl ?_
      refine pw_geti 5 zc_X6 (ts_this hM) (by decide) q1991 (Or.inl rfl) dX6_tongue_56 ?_
      refine pw_if_ne 84 dX6_tongue_59 (by decide) (fun c_59 => ?_) (fun c_59 => ?_)
      · exact absurd hR.2.1 c_59
      · refine pw_aload_n dX6_tongue_62 0 rfl rfl ?_
        refine pw_geti 4 zc_X6 (ts_this hM) (by decide) q1990 (Or.inl rfl) dX6_tongue_63 ?_
        rw [hR.2.2.1]
        refine pw_aload_n dX6_tongue_66 0 rfl rfl ?_
        refine pw_geti 2 zc_X6 (ts_this hM) (by decide) q1988 (Or.inl rfl) dX6_tongue_67 ?_
        rw [hR.1.1]
        have hpN := hR.2.2.2.2.1
        refine pw_icmp_ge_N 84 dX6_tongue_70 (by decide) (by omega) (by omega) (fun c_70 => ?_) (fun c_70 => ?_)
        · rw [if_neg (by omega)] at he
          rw [hsp, he]
          refine pw_aload_n dX6_tongue_84 0 rfl rfl ?_
          refine pw_aload_n dX6_tongue_85 0 rfl rfl ?_
          refine pw_geti 6 zc_X6 (ts_this hM) (by decide) q1992 (Or.inl rfl) dX6_tongue_86 ?_
          rw [hR.2.2.2.2.2]
          refine pw_puti 3 zc_X6 (ts_this hM) (by decide) (by decide) q1989 rfl (Or.inl rfl) rfl rfl dX6_tongue_89 ?_
          refine pw_aload_n dX6_tongue_92 0 rfl rfl ?_
          refine pw_geti 5 zc_X6 (ts_this hM) (by decide) q1991 (Or.inl rfl) dX6_tongue_93 ?_
          refine pw_if_eq 107 dX6_tongue_96 (by decide) (fun c_96 => ?_) (fun c_96 => ?_)
          · exact h107 N n0 _ T i hT0 hth0 hf0 hTo (fun k q hq => by
              obtain ⟨i1, j1, b1, b2, b3, b4, b5, b6⟩ := hr k q hq
              exact ⟨i1, j1, b1, b2, b3, b4, b5, b6⟩) (by omega) hic hwc ht rfl ((hf.mono (fun _ _ z => Or.inl z) (fun _ z => z)).pfi (Or.inr ⟨rfl, rfl⟩))
          · exact absurd hR.2.1 c_96
        · rw [if_pos c_70] at he hok
          refine pw_aload_n dX6_tongue_73 0 rfl rfl ?_
          refine pw_callV0 zmM_X6_whoHere rfl (lw_V q2284 q2286 qs80 q150 q2287) rfl (ts_this hM) zc_X6 (t_whoHere hM hN hsk hTo hR hip hic hwc hr) (by decide) (Nat.le_refl _) (Nat.le_refl _) rfl (Nat.le_of_ble_eq_true rfl) (Nat.le_of_ble_eq_true rfl) dX6_tongue_74 (by intros; rintro ⟨h, _⟩; cases h) (fun v3 g3 n3 h3 => ?_)
          obtain ⟨h3, rfl, hf3, hr3⟩ := h3
          cases h3
          have hf4 : zFr tlF wwA n0 n3 := hf.tr (hf3.mono (fun _ _ z => Or.inl z) (fun _ z => z))
          have ht4 : zfi n3 aT tf_tape = 0 := ((hf3.1 aT tf_tape (wwF_no (Or.inl rfl))).1).trans ht
          cases hrr : pRw (sN S 3) N T p with
          | inl e =>
            rw [hrr] at hr3 he
            obtain ⟨q, hq, hq6⟩ := hr3.2.2.2.2
            refine pw_aload_n dX6_tongue_77 0 rfl rfl ?_
            refine pw_callV0 zmM_X6_blanks rfl (lw_V q2196 q2198 qs64 q150 q2199) rfl (ts_this hM) zc_X6 (t_blanksF hM _ q n3 (Nat.le_refl _) hq6 (hR.1.keep4 hf3) hq) (by decide) (Nat.le_refl _) (Nat.le_refl _) rfl (Nat.le_of_ble_eq_true rfl) (Nat.le_of_ble_eq_true rfl) dX6_tongue_78 (by intros; rintro ⟨h, _⟩; cases h) (fun v5 g5 n5 h5 => ?_)
            obtain ⟨h5, rfl, hat5, hf5⟩ := h5; cases h5
            have hF5 : TFl n5 e := ⟨((hf5.1 aT tf_fault (fun z => absurd z.2 (by decide))).1).trans hr3.1, ((hf5.1 aT tf_faultAt (fun z => absurd z.2 (by decide))).1).trans hr3.2.1, hr3.2.2.1, hr3.2.2.2.1, hat5⟩
            have hf6 : zFr tlF wwA n0 n5 := hf4.tr (hf5.mono (fun a k z => Or.inl (Or.inl (Or.inl ⟨z.1, Or.inl z.2⟩))) (fun _ z => z.elim))
            have ht6 : zfi n5 aT tf_tape = 0 := ((hf5.1 aT tf_tape (fun z => absurd z.2 (by decide))).1).trans ht4
            refine pw_goto 55 dX6_tongue_81 (by decide) ?_
            clear c_70 c_59
            rw [hsp, he]
            refine pw_aload_n dX6_tongue_55 0 rfl rfl ?_
            refine pw_geti 5 zc_X6 (ts_this hM) (by decide) q1991 (Or.inl rfl) dX6_tongue_56 ?_
            refine pw_if_ne 84 dX6_tongue_59 (by decide) (fun c_59 => ?_) (fun c_59 => ?_)
            · refine pw_aload_n dX6_tongue_84 0 rfl rfl ?_
              refine pw_aload_n dX6_tongue_85 0 rfl rfl ?_
              refine pw_geti 6 zc_X6 (ts_this hM) (by decide) q1992 (Or.inl rfl) dX6_tongue_86 ?_
              refine pw_puti 3 zc_X6 (ts_this hM) (by decide) (by decide) q1989 rfl (Or.inl rfl) rfl rfl dX6_tongue_89 ?_
              refine pw_aload_n dX6_tongue_92 0 rfl rfl ?_
              refine pw_geti 5 zc_X6 (ts_this hM) (by decide) q1991 (Or.inl rfl) dX6_tongue_93 ?_
              refine pw_if_eq 107 dX6_tongue_96 (by decide) (fun c_96 => ?_) (fun c_96 => ?_)
              · exact absurd c_96 hF5.ne
              · refine pw_aload_n dX6_tongue_99 0 rfl rfl ?_
                refine pw_geti 5 zc_X6 (ts_this hM) (by decide) q1991 (Or.inl rfl) dX6_tongue_100 ?_
                rw [show zfi (zpfi n5 aT tf_place (zfi n5 aT tf_faultAt)) aT tf_fault = nI e.1 from hF5.1]
                refine pw_bipush (v := 10) dX6_tongue_103 (by decide) ?_
                refine pw_isub dX6_tongue_105 ?_
                refine pw_iret rfl dX6_tongue_106 ?_
                exact t_failed2 hT0 hW hth0 hf0 hF5 ht6 hf6
            · exact absurd c_59 hF5.ne
          | inr q =>
            rw [hrr] at hr3 he hok
            obtain ⟨hR3, j, hj1, hj2, hj3, hj4⟩ := hr3
            refine pw_aload_n dX6_tongue_77 0 rfl rfl ?_
            refine pw_callV0 zmM_X6_blanks rfl (lw_V q2196 q2198 qs64 q150 q2199) rfl (ts_this hM) zc_X6 (t_blk hM hR3) (by decide) (Nat.le_refl _) (Nat.le_refl _) rfl (Nat.le_of_ble_eq_true rfl) (Nat.le_of_ble_eq_true rfl) dX6_tongue_78 (by intros; rintro ⟨h, _⟩; cases h) (fun v5 g5 n5 h5 => ?_)
            obtain ⟨h5, rfl, hR5, hf5⟩ := h5; cases h5
            refine pw_goto 55 dX6_tongue_81 (by decide) ?_
            exact ih q.1 _ n5 j he hok (skp_skp _ _ _) (pRw_ok hTo (show pRw (sN S 3) N T p = .inr (q.1, q.2) from hrr)) (fun k y hy => by
              obtain ⟨i1, j1, b1, b2, b3, b4, b5, b6⟩ := hj4 k y hy
              have e5 : ∀ a c, zai n5 a c = zai n3 a c := fun a c => (hf5.2 a (fun z => z) c).1
              exact ⟨i1, j1, b1, b2, by rw [e5]; exact b3, by rw [e5]; exact b4, by rw [e5]; exact b5, b6.r b1 hf5⟩) (by have := skp_ge (sN S 3) N q.2; omega) ((rc_k hf5).trans hj2) (((hf5.1 aT tf_readWhos (fun z => by rcases z.2 with z | z | z | z <;> exact absurd z (by decide))).1).trans hj3) hR5 (((hf5.1 aT tf_tape (fun z => by rcases z.2 with z | z | z | z <;> exact absurd z (by decide))).1).trans ht4) (hf4.tr ((twF (rtF hf5)).mono (fun _ _ z => Or.inl z) (fun _ z => z)))
  refine pw_aload_n dX6_tongue_0 0 rfl rfl ?_
  refine pw_iconst (v := 0) dX6_tongue_1 (by decide) ?_
  refine pw_puti 0 zc_X6 (ts_this hM) (by decide) (by decide) q1986 rfl (Or.inl rfl) rfl rfl dX6_tongue_2 ?_
  obtain ⟨hT0, hth, hf0⟩ := t_start hT hW; generalize zpfi n aT 0 0 = n0 at hT0 hth hf0 ⊢
  refine pw_aload_n dX6_tongue_5 0 rfl rfl ?_
  refine pw_iload_n dX6_tongue_6 1 rfl rfl ?_
  refine pw_iconst (v := 0) dX6_tongue_7 (by decide) ?_
  refine pw_aload_n dX6_tongue_8 0 rfl rfl ?_
  refine pw_geti 1 zc_X6 (ts_this hM) (by decide) q1987 (Or.inl rfl) dX6_tongue_9 ?_
  rw [hT0.tape]
  refine pw_callS3 zmM_X6_in rfl (lw_S q2185 q2186 q150 q2187) (t_in _ _ _ _ _) (by decide) (Nat.le_refl _) (Nat.le_refl _) rfl (Nat.le_of_ble_eq_true rfl) (Nat.le_of_ble_eq_true rfl) dX6_tongue_12 zE.nx (zE_kk ?_)
  refine pw_if_eq_B 25 dX6_tongue_15 (by decide) (fun c_15 => ?_) (fun c_15 => ?_)
  · refine pw_iconst (v := 1) dX6_tongue_25 (by decide) ?_
    refine pw_goto 30 dX6_tongue_26 (by decide) ?_
    refine pw_iconst (v := 1) dX6_tongue_30 (by decide) ?_
    refine pw_iconst (v := 1) dX6_tongue_31 (by decide) ?_
    refine pw_callV3 zmM_X6_bad rfl (lw_V q2188 q2190 qs62 q150 q2191) rfl (ts_this hM) zc_X6 (t_bad1 hM 1 (by decide) 1 (by decide) hth) (by decide) (Nat.le_refl _) (Nat.le_refl _) rfl (Nat.le_of_ble_eq_true rfl) (Nat.le_of_ble_eq_true rfl) dX6_tongue_32 zE.nx (zE_kk ?_)
    refine pw_if_eq 40 dX6_tongue_35 (by decide) (fun c_35 => ?_) (fun c_35 => ?_)
    · exact absurd c_35 (by decide)
    · refine pw_iconst (v := 0) dX6_tongue_38 (by decide) ?_
      refine pw_iret rfl dX6_tongue_39 ?_
      exact tQ_eq (spNeed_f (fun h => c_15 ((inB_cut (by omega)).mp h).1)) (t_qbad hT0 hW hf0 1 1 (by decide) _)
  · refine pw_iload_n dX6_tongue_18 1 rfl rfl ?_
    refine pw_sipush (v := 200) dX6_tongue_19 (by decide) ?_
    refine pw_icmp_le 29 dX6_tongue_22 (by decide) (fun c_22 => ?_) (fun c_22 => ?_)
    · refine pw_iconst (v := 0) dX6_tongue_29 (by decide) ?_
      refine pw_iconst (v := 1) dX6_tongue_30 (by decide) ?_
      refine pw_iconst (v := 1) dX6_tongue_31 (by decide) ?_
      refine pw_callV3 zmM_X6_bad rfl (lw_V q2188 q2190 qs62 q150 q2191) rfl (ts_this hM) zc_X6 (t_bad0 hM 1 (by decide) 1 (by decide) hth) (by decide) (Nat.le_refl _) (Nat.le_refl _) rfl (Nat.le_of_ble_eq_true rfl) (Nat.le_of_ble_eq_true rfl) dX6_tongue_32 zE.nx (zE_kk ?_)
      refine pw_if_eq 40 dX6_tongue_35 (by decide) (fun c_35 => ?_) (fun c_35 => ?_)
      · have hin := (inB_cut (m := sN S 0 7) (by omega)).mpr ⟨c_15, c_22⟩
        obtain ⟨N, hN, rfl⟩ := inB_ex (x := x) (by omega) ((Bool.and_eq_true _ _).mp hin).1
        have hsp : sp_tongue S (nI N) = _ := (spNeed_t hin).trans (by rw [nI_clamp (show N < 2 ^ 31 by omega)])
        have hN2 : N ≤ 200 := (nI_leI (by omega) (by decide)).mp (show nI N ≤ nI 200 from c_22)
        refine pw_aload_n dX6_tongue_40 0 rfl rfl ?_
        refine pw_iload_n dX6_tongue_41 1 rfl rfl ?_
        refine pw_callV1 zmM_X6_starts rfl (lw_V q2192 q2194 qs63 q150 q2195) rfl (ts_this hM) zc_X6 (t_starts hM (show N ≤ 600 by omega) (fun k hk => ⟨hT0.fed (by omega), hW.byte (by omega)⟩)) (by decide) (Nat.le_refl _) (Nat.le_refl _) rfl (Nat.le_of_ble_eq_true rfl) (Nat.le_of_ble_eq_true rfl) dX6_tongue_42 (by intros; rintro ⟨h, _⟩; cases h) (fun v1 g1 n1 h1 => ?_)
        obtain ⟨h1, rfl, hR1, hc1, ht1, hf1⟩ := h1; cases h1
        refine pw_aload_n dX6_tongue_45 0 rfl rfl ?_
        refine pw_iconst (v := 0) dX6_tongue_46 (by decide) ?_
        refine pw_puti 26 zc_X6 (ts_this hM) (by decide) (by decide) q2012 rfl (Or.inl rfl) rfl rfl dX6_tongue_47 ?_
        refine pw_aload_n dX6_tongue_50 0 rfl rfl ?_
        refine pw_iconst (v := 0) dX6_tongue_51 (by decide) ?_
        refine pw_puti 28 zc_X6 (ts_this hM) (by decide) (by decide) q2014 rfl (Or.inl rfl) rfl rfl dX6_tongue_52 ?_
        have hfa : zFr tlF wwA n0 n1 := hf1.mono (fun a k z => by
            rcases z with (z | z) | ⟨z, z2⟩
            · exact Or.inl (Or.inl (Or.inl z))
            · exact Or.inr ⟨z.1, Or.inr (Or.inr z.2)⟩
            · exact Or.inr ⟨z, z2.imp id Or.inl⟩) (fun _ z => z.elim)
        have hf2 : zFr (fun a k => a = aT ∧ k = tf_readCodes) ttA (zpfi n1 aT tf_readWhos 0) (zpfi (zpfi n1 aT tf_readWhos 0) aT tf_readCodes 0) := zFr.rf.pfi ⟨rfl, rfl⟩
        exact hlp N n0 hN2 hT0 hth hf0 hsp (N + 1) [] _ _ 0 rfl (pTg_pok _ _) (skp_skp _ _ _) ⟨Nat.zero_le _, (fun q hq => nomatch hq)⟩ (fun k q hq => nomatch hq) (Nat.zero_le _) rfl rfl ((hR1.w (n' := zpfi n1 aT tf_readWhos 0) (zFr.rf.pfi ⟨rfl, rfl⟩)).s hf2) ht1 ((hfa.pfi (Or.inl (Or.inr ⟨rfl, rfl⟩))).pfi (Or.inl (Or.inl (Or.inr ⟨rfl, rfl⟩))))
      · exact absurd rfl c_35
    · refine pw_iconst (v := 1) dX6_tongue_25 (by decide) ?_
      refine pw_goto 30 dX6_tongue_26 (by decide) ?_
      refine pw_iconst (v := 1) dX6_tongue_30 (by decide) ?_
      refine pw_iconst (v := 1) dX6_tongue_31 (by decide) ?_
      refine pw_callV3 zmM_X6_bad rfl (lw_V q2188 q2190 qs62 q150 q2191) rfl (ts_this hM) zc_X6 (t_bad1 hM 1 (by decide) 1 (by decide) hth) (by decide) (Nat.le_refl _) (Nat.le_refl _) rfl (Nat.le_of_ble_eq_true rfl) (Nat.le_of_ble_eq_true rfl) dX6_tongue_32 zE.nx (zE_kk ?_)
      refine pw_if_eq 40 dX6_tongue_35 (by decide) (fun c_35 => ?_) (fun c_35 => ?_)
      · exact absurd c_35 (by decide)
      · refine pw_iconst (v := 0) dX6_tongue_38 (by decide) ?_
        refine pw_iret rfl dX6_tongue_39 ?_
        exact tQ_eq (spNeed_f (fun h => absurd ((inB_cut (by omega)).mp h).2 c_22)) (t_qbad hT0 hW hf0 1 1 (by decide) _)

/-! ===== the reference: feed ===== -/
/-- a byte of an int, the highest first -/
def fdB (v : Int32) (k : Nat) : Nat := ((v >>> (nI (24 - 8 * k) &&& 31)) &&& 255).toNatClampNeg
def fdW (a b c d e : Int32) (k : Nat) : Int32 := if k < 4 then a else if k < 8 then b else if k < 12 then c else if k < 16 then d else e
theorem fdB_is (v : Int32) (k : Nat) : (v >>> (nI (24 - 8 * k) &&& 31)) &&& 255 = nI (fdB v k) ∧ fdB v k < 256 := by
  obtain ⟨j, hj, h⟩ := vp_in_of (pk_andIn (v >>> (nI (24 - 8 * k) &&& 31)) (m := 255) 8 rfl (by decide)) (by decide)
  unfold fdB
  rw [h, nI_clamp (by omega)]
  exact ⟨rfl, hj⟩
theorem fd_sh : ∀ k, k < 20 → (24 : Int32) - 8 * (nI k - nI k / 4 * 4) = nI (24 - 8 * (k % 4)) := by decide +kernel
def sFed (S : zS) (a b c d e : Int32) : zS := (fun x k => if x = 0 ∧ k = 7 then sN S 0 7 + 20 else if x = 3 ∧ sN S 0 7 ≤ k then fdB (fdW a b c d e (k - sN S 0 7)) ((k - sN S 0 7) % 4) else S.1 x k, S.2)
theorem sFed_N {S : zS} {a b c d e : Int32} {x k : Nat} (h1 : ¬ (x = 0 ∧ k = 7)) (h2 : ¬ (x = 3 ∧ sN S 0 7 ≤ k)) : sN (sFed S a b c d e) x k = sN S x k := (if_neg h1).trans (if_neg h2)
theorem sFed_7 {S : zS} {a b c d e : Int32} : sN (sFed S a b c d e) 0 7 = sN S 0 7 + 20 := by
  unfold sFed
  show (if (0 : Nat) = 0 ∧ (7 : Nat) = 7 then sN S 0 7 + 20 else (if (0 : Nat) = 3 ∧ sN S 0 7 ≤ 7 then fdB (fdW a b c d e (7 - sN S 0 7)) ((7 - sN S 0 7) % 4) else S.1 0 7)) = _
  rw [if_pos ⟨rfl, rfl⟩]
theorem sFed_3 {S : zS} {a b c d e : Int32} {k : Nat} (h : sN S 0 7 ≤ k) : sN (sFed S a b c d e) 3 k = fdB (fdW a b c d e (k - sN S 0 7)) ((k - sN S 0 7) % 4) := by
  show (if (3 : Nat) = 0 ∧ k = 7 then sN S 0 7 + 20 else (if (3 : Nat) = 3 ∧ sN S 0 7 ≤ k then fdB (fdW a b c d e (k - sN S 0 7)) ((k - sN S 0 7) % 4) else S.1 3 k)) = _
  rw [if_neg (fun z => absurd z.1 (by decide)), if_pos ⟨rfl, h⟩]
def sp_feed (S : zS) (a b c d e : Int32) : Int32 × Value × zS := if sN S 0 7 + 20 ≤ 600 then (0, .int (nI (sN S 0 7 + 20)), sFed S a b c d e) else (0, .int (-1), S)
theorem WF.fed {S : zS} (h : WF S) (a b c d e : Int32) (h6 : sN S 0 7 + 20 ≤ 600) : WF (sFed S a b c d e) := by
  have e0 : ∀ x k, x ≠ 3 → ¬ (x = 0 ∧ k = 7) → sN (sFed S a b c d e) x k = sN S x k := fun x k h1 h2 => sFed_N h2 (fun z => h1 z.1)
  obtain ⟨⟨a1, a2, a3, a4, a5, a6, a7, a8, a9⟩, b2, ⟨b3, b4⟩, b5, b6, b7, b8, b9, b10⟩ := h
  have e01 := e0 0 1 (by decide) (by decide); have e00 := e0 0 0 (by decide) (by decide); have e03 := e0 0 3 (by decide) (by decide); have e02 := e0 0 2 (by decide) (by decide)
  have e04 := e0 0 4 (by decide) (by decide); have e05 := e0 0 5 (by decide) (by decide); have e06 := e0 0 6 (by decide) (by decide)
  refine ⟨⟨by rw [e00]; exact a1, by rw [e00]; exact a2, by rw [e01]; exact a3, by rw [e02]; exact a4, by rw [e03]; exact a5, by rw [e04, e00]; exact a6, by rw [e05]; exact a7, by rw [e06]; exact a8, by rw [sFed_7]; exact h6⟩, fun k hk => ?_, ⟨fun k hk => ?_, ?_⟩, fun k hk => ?_, fun i hi => ?_, fun k hk => ?_, fun w hw => ?_, b9, b10⟩
  · rw [e02] at hk; rw [e0 1 k (by decide) (by omega)]; exact b2 k hk
  · rw [e0 2 k (by decide) (by omega)]; exact b3 k hk
  · rw [e01, show sN (sFed S a b c d e) 2 = sN S 2 from funext fun k => e0 2 k (by decide) (by omega)]; exact b4
  · rw [sFed_7] at hk
    by_cases h : sN S 0 7 ≤ k
    · rw [sFed_3 h]; exact (fdB_is _ _).2
    · rw [sFed_N (by omega) (by omega)]; exact b5 k (by omega)
  · rw [e06] at hi
    have h := b6 i hi
    rw [e00, e01, e0 (10 + i) 0 (by omega) (by omega), e0 (10 + i) 1 (by omega) (by omega), show (fun k => sN (sFed S a b c d e) (10 + i) (2 + k)) = (fun k => sN S (10 + i) (2 + k)) from funext fun k => e0 _ _ (by omega) (by omega)]
    exact ⟨h.1, h.2.1, fun k hk => by rw [e0 _ _ (by omega) (by omega)]; exact h.2.2.1 k hk, h.2.2.2⟩
  · unfold okb at hk; rw [e01, e03] at hk; rw [e00]; exact b7 k hk
  · rw [e00]; exact b8 w hw
def fdF (a k : Nat) : Prop := a = aT ∧ k = tf_tape
def fdA (a : Nat) : Prop := a = at_fed
theorem TW.fedd {n n' : zg_N} {S : zS} (h : TW n S) (a b c d e : Int32) (hf : zFr fdF fdA n n') (ht : zfi n' aT tf_tape = nI (sN S 0 7 + 20)) (hl : ∀ k, zal n' at_fed k = zal n at_fed k) (hb : ∀ k, k < sN S 0 7 + 20 → zai n' at_fed k = nI (sN (sFed S a b c d e) 3 k)) : TW n' (sFed S a b c d e) := by
  have hi : ∀ k, k ≠ tf_tape → zfi n' aT k = zfi n aT k ∧ zfl n' aT k = zfl n aT k := fun k hk => hf.1 _ _ (fun z => hk z.2)
  have ha : ∀ a, a ≠ at_fed → ∀ j, zai n' a j = zai n a j := fun a q j => (hf.2 a q j).1
  have hal : ∀ a, a ≠ at_fed → ∀ j, zal n' a j = zal n a j := fun a q j => (hf.2 a q j).2
  have e0 : ∀ x k, x ≠ 3 → ¬ (x = 0 ∧ k = 7) → sN (sFed S a b c d e) x k = sN S x k := fun x k h1 h2 => sFed_N h2 (fun z => h1 z.1)
  have e01 := e0 0 1 (by decide) (by decide); have e03 := e0 0 3 (by decide) (by decide); have e02 := e0 0 2 (by decide) (by decide); have e06 := e0 0 6 (by decide) (by decide)
  obtain ⟨a1, a2, a3, a4, a5, a6, ⟨a7, a8⟩, ⟨a9, a10⟩, a11, a12, a13, cc, N, a14, a15, a16⟩ := h
  refine ⟨fun k hk => ?_, fun k hk => ?_, fun k hk => ⟨?_, ?_⟩, fun k hk => ?_, fun k hk => ?_, ((hi tf_question (by decide)).2).trans a6, ⟨?_, fun i hi2 j hj => ?_⟩, ⟨by rw [ht, sFed_7], fun k hk => ?_⟩, ((hi tf_place (by decide)).1).trans a11, fun k hk => ?_, ((hi tf_whos (by decide)).1).trans a13, cc, N, a14, fun i hi2 => ⟨?_, ?_⟩, fun k q hq => ?_⟩
  · rw [ha at_told (by decide), e0 0 k (by decide) (by omega)]; exact a1 k hk
  · unfold okb at hk; rw [e01, e03] at hk; rw [hal at_models (by decide)]; exact a2 k hk
  · rw [e02] at hk; rw [ha at_seeWeek (by decide), e0 1 k (by decide) (by omega)]; exact (a3 k hk).1
  · rw [e02] at hk; rw [hal at_seen (by decide)]; exact (a3 k hk).2
  · rw [hal at_leftIn (by decide)]; exact a4 k hk
  · rw [ha at_order (by decide), e0 2 k (by decide) (by omega)]; exact a5 k hk
  · rw [(hi tf_images (by decide)).1, e06]; exact a7
  · rw [e06] at hi2; rw [ha (at_kept + 1 + i) (by show 1058 + 1 + i ≠ 1046; omega), e0 (10 + i) j (by omega) (by omega)]; exact a8 i hi2 j hj
  · rw [sFed_7] at hk; exact hb k hk
  · rw [ha at_refused (by decide)]; exact a12 k hk
  · rw [ha (at_code + 1 + i) (by show 1084 + 1 + i ≠ 1046; omega)]; exact (a15 i hi2).1
  · rw [ha (at_code + 1 + i) (by show 1084 + 1 + i ≠ 1046; omega)]; exact (a15 i hi2).2
  · obtain ⟨i, m, b1, b2, b3, b4, b5⟩ := a16 k q hq
    have := ha (at_who + 1 + k) (by show 1062 + 1 + k ≠ 1046; omega)
    exact ⟨i, m, b1, (this 0).trans b2, (this 1).trans b3, (this 2).trans b4, b5⟩
theorem t_feed {g : zg_G} {n : zg_N} {S : zS} (hM : TSh g) (hT : TW n S) (hW : WF S) (a b c d e : Int32) : PW zm_X6_feed 1 (tQ g n (sp_feed S a b c d e)) 0 0 0 [(0, .ref aT), (1, .int a), (2, .int b), (3, .int c), (4, .int d), (5, .int e)] [] g n := by
  have h600 := hW.taped
  have hlp : ∀ n0, TW n0 S → zfi n0 aT tf_thrown = 0 → zFr tXF tXA n n0 → sN S 0 7 + 20 ≤ 600 → ∀ k, k ≤ 20 → ∀ n1, zFr fdF fdA n0 n1 → zfi n1 aT tf_tape = nI (sN S 0 7 + k) → (∀ j, zal n1 at_fed j = zal n0 at_fed j) → (∀ j, j < sN S 0 7 + k → zai n1 at_fed j = nI (sN (sFed S a b c d e) 3 j)) →
      PW zm_X6_feed 1 (tQ g n (0, .int (nI (sN S 0 7 + 20)), sFed S a b c d e)) 0 0 23 [(0, .ref aT), (1, .int a), (2, .int b), (3, .int c), (4, .int d), (5, .int e), (6, .int (nI k))] [] g n1 := by
    intro n0 hT0 hth0 hf0 h6
    refine zl_up 20 (fun k hk ih n1 hf1 ht1 hl1 hb1 => ?_)
    have h76 : ∀ v, k < 20 → v = fdW a b c d e k → PW zm_X6_feed 1 (tQ g n (0, .int (nI (sN S 0 7 + 20)), sFed S a b c d e)) 0 0 76 [(0, .ref aT), (1, .int a), (2, .int b), (3, .int c), (4, .int d), (5, .int e), (6, .int (nI k))] [.int v] g n1 := by
      intro v hk20 hv
      have hfb := fdB_is v (k % 4)
      refine pw_istore (ls' := [(7, _), (0, _), (1, _), (2, _), (3, _), (4, _), (5, _), (6, _)]) dX6_feed_76 (by decide) rfl ?_
      refine pw_ls [1, 2, 3, 4, 5, 6, 7, 0] (ls' := [(0, _), (1, _), (2, _), (3, _), (4, _), (5, _), (6, _), (7, _)]) rfl ?_
      refine pw_aload_n dX6_feed_78 0 rfl rfl ?_
      refine pw_getr 9 zc_X6 (ts_this hM) (by decide) q1995 (Or.inr ⟨_, rfl⟩) (tr_fed hM) dX6_feed_79 ?_
      refine pw_aload_n dX6_feed_82 0 rfl rfl ?_
      refine pw_geti 1 zc_X6 (ts_this hM) (by decide) q1987 (Or.inl rfl) dX6_feed_83 ?_
      rw [ht1]
      refine pw_iload dX6_feed_86 7 rfl ?_
      refine pw_bipush (v := 24) dX6_feed_88 (by decide) ?_
      refine pw_bipush (v := 8) dX6_feed_90 (by decide) ?_
      refine pw_iload dX6_feed_92 6 rfl ?_
      refine pw_iconst (v := 4) dX6_feed_94 (by decide) ?_
      refine pw_irem dX6_feed_95 (by decide) ?_
      refine pw_imul dX6_feed_96 ?_
      refine pw_isub dX6_feed_97 ?_
      rw [fd_sh k hk20]
      refine pw_ishr dX6_feed_98 ?_
      refine pw_sipush (v := 255) dX6_feed_99 (by decide) ?_
      refine pw_iand dX6_feed_102 ?_
      rw [hfb.1]
      refine pw_iast (sN S 0 7 + k) rfl (ts_fed hM) (by decide) (by omega) (by decide) dX6_feed_103 ?_
      refine pw_aload_n dX6_feed_104 0 rfl rfl ?_
      refine pw_dup dX6_feed_105 rfl ?_
      refine pw_geti 1 zc_X6 (ts_this hM) (by decide) q1987 (Or.inl rfl) dX6_feed_106 ?_
      rw [show zfi (zpai n1 at_fed (sN S 0 7 + k) (nI (fdB v (k % 4)))) aT tf_tape = nI (sN S 0 7 + k) from ht1]
      refine pw_iconst (v := 1) dX6_feed_109 (by decide) ?_
      refine pw_iadd dX6_feed_110 ?_
      rw [nI_1]
      refine pw_puti 1 zc_X6 (ts_this hM) (by decide) (by decide) q1987 rfl (Or.inl rfl) rfl rfl dX6_feed_111 ?_
      refine pw_iinc1 (j := 6) (ls' := [(6, _), (0, _), (1, _), (2, _), (3, _), (4, _), (5, _), (7, _)]) dX6_feed_114 rfl (by decide) rfl ?_
      refine pw_ls [1, 2, 3, 4, 5, 6, 0, 7] (ls' := [(0, _), (1, _), (2, _), (3, _), (4, _), (5, _), (6, _), (7, _)]) rfl ?_
      refine pw_goto 23 dX6_feed_117 (by decide) ?_
      refine pw_ls [0, 1, 2, 3, 4, 5, 6] (ls' := [(0, _), (1, _), (2, _), (3, _), (4, _), (5, _), (6, _)]) rfl ?_
      refine ih (k + 1) (by omega) (by omega) _ ((hf1.pai rfl).pfi ⟨rfl, rfl⟩) rfl hl1 (fun j hj => ?_)
      show zai (zpai n1 at_fed (sN S 0 7 + k) (nI (fdB v (k % 4)))) at_fed j = _
      rw [zai_p]
      by_cases e9 : j = sN S 0 7 + k
      · rw [if_pos ⟨rfl, e9⟩, e9, sFed_3 (by omega), show sN S 0 7 + k - sN S 0 7 = k by omega, hv]
      · rw [if_neg (fun z => e9 z.2)]; exact hb1 j (by omega)
    refine pw_iload dX6_feed_23 6 rfl ?_
    refine pw_bipush (v := 20) dX6_feed_25 (by decide) ?_
    refine pw_icmp_ge_N (b := 20) 120 dX6_feed_27 (by decide) (by omega) (by omega) (fun c_27 => ?_) (fun c_27 => ?_)
    · refine pw_aload_n dX6_feed_120 0 rfl rfl ?_
      refine pw_geti 1 zc_X6 (ts_this hM) (by decide) q1987 (Or.inl rfl) dX6_feed_121 ?_
      have hk20 : k = 20 := by omega
      subst hk20
      rw [ht1]
      refine pw_iret rfl dX6_feed_124 ?_
      exact ⟨rfl, rfl, hT0.fedd a b c d e hf1 ht1 hl1 hb1, ((hf1.1 aT tf_thrown (fun z => absurd z.2 (by decide))).1).trans hth0, hf0.tr (hf1.mono (fun a k z => z.1) (fun a z => by have e : a = at_fed := z; subst e; constructor <;> decide))⟩
    · refine pw_iload dX6_feed_30 6 rfl ?_
      refine pw_iconst (v := 4) dX6_feed_32 (by decide) ?_
      refine pw_icmp_ge_N (b := 4) 40 dX6_feed_33 (by decide) (by omega) (by omega) (fun c_33 => ?_) (fun c_33 => ?_)
      · refine pw_iload dX6_feed_40 6 rfl ?_
        refine pw_bipush (v := 8) dX6_feed_42 (by decide) ?_
        refine pw_icmp_ge_N (b := 8) 51 dX6_feed_44 (by decide) (by omega) (by omega) (fun c_44 => ?_) (fun c_44 => ?_)
        · refine pw_iload dX6_feed_51 6 rfl ?_
          refine pw_bipush (v := 12) dX6_feed_53 (by decide) ?_
          refine pw_icmp_ge_N (b := 12) 62 dX6_feed_55 (by decide) (by omega) (by omega) (fun c_55 => ?_) (fun c_55 => ?_)
          · refine pw_iload dX6_feed_62 6 rfl ?_
            refine pw_bipush (v := 16) dX6_feed_64 (by decide) ?_
            refine pw_icmp_ge_N (b := 16) 74 dX6_feed_66 (by decide) (by omega) (by omega) (fun c_66 => ?_) (fun c_66 => ?_)
            · refine pw_iload dX6_feed_74 5 rfl ?_
              exact h76 _ (by omega) (by unfold fdW; rw [if_neg (by omega), if_neg (by omega), if_neg (by omega), if_neg (by omega)])
            · refine pw_iload dX6_feed_69 4 rfl ?_
              refine pw_goto 76 dX6_feed_71 (by decide) ?_
              exact h76 _ (by omega) (by unfold fdW; rw [if_neg (by omega), if_neg (by omega), if_neg (by omega), if_pos c_66])
          · refine pw_iload_n dX6_feed_58 3 rfl rfl ?_
            refine pw_goto 76 dX6_feed_59 (by decide) ?_
            exact h76 _ (by omega) (by unfold fdW; rw [if_neg (by omega), if_neg (by omega), if_pos c_55])
        · refine pw_iload_n dX6_feed_47 2 rfl rfl ?_
          refine pw_goto 76 dX6_feed_48 (by decide) ?_
          exact h76 _ (by omega) (by unfold fdW; rw [if_neg (by omega), if_pos c_44])
      · refine pw_iload_n dX6_feed_36 1 rfl rfl ?_
        refine pw_goto 76 dX6_feed_37 (by decide) ?_
        exact h76 _ (by omega) (by unfold fdW; rw [if_pos c_33])
  refine pw_aload_n dX6_feed_0 0 rfl rfl ?_
  refine pw_iconst (v := 0) dX6_feed_1 (by decide) ?_
  refine pw_puti 0 zc_X6 (ts_this hM) (by decide) (by decide) q1986 rfl (Or.inl rfl) rfl rfl dX6_feed_2 ?_
  obtain ⟨hT0, hth, hf0⟩ := t_start hT hW; generalize zpfi n aT 0 0 = n0 at hT0 hth hf0 ⊢
  refine pw_aload_n dX6_feed_5 0 rfl rfl ?_
  refine pw_geti 1 zc_X6 (ts_this hM) (by decide) q1987 (Or.inl rfl) dX6_feed_6 ?_
  rw [hT0.tape]
  refine pw_bipush (v := 20) dX6_feed_9 (by decide) ?_
  refine pw_iadd dX6_feed_11 ?_
  rw [show (20 : Int32) = nI 20 from rfl, nI_add]
  refine pw_sipush (v := 600) dX6_feed_12 (by decide) ?_
  refine pw_icmp_le_N (b := 600) 20 dX6_feed_15 (by decide) (by omega) (by omega) (fun c_15 => ?_) (fun c_15 => ?_)
  · refine pw_iconst (v := 0) dX6_feed_20 (by decide) ?_
    refine pw_istore (ls' := [(6, _), (0, _), (1, _), (2, _), (3, _), (4, _), (5, _)]) dX6_feed_21 (by decide) rfl ?_
    refine pw_ls [1, 2, 3, 4, 5, 6, 0] (ls' := [(0, _), (1, _), (2, _), (3, _), (4, _), (5, _), (6, _)]) rfl ?_
    unfold sp_feed
    rw [if_pos c_15]
    exact hlp n0 hT0 hth hf0 c_15 0 (Nat.zero_le _) n0 zFr.rf hT0.tape (fun _ => rfl) (fun j hj => by rw [sFed_N (by omega) (by omega)]; exact (hT0.2.2.2.2.2.2.2.1).2 j hj)
  · refine pw_iconst (v := (-1)) dX6_feed_18 (by decide) ?_
    refine pw_iret rfl dX6_feed_19 ?_
    unfold sp_feed
    rw [if_neg (by omega)]
    exact t_qok hT0 hth hf0 _

