/-! ===== THE CLASS: small methods ===== -/
theorem inB_lt {x : Int32} {m : Nat} (hm : m < 2147483648) : inB x m = true ↔ 0 ≤ x ∧ x < nI m := by
  unfold inB
  rw [Bool.and_eq_true, decide_eq_true_eq, decide_eq_true_eq, Int32.le_iff_toInt_le, Int32.lt_iff_toInt_lt, nI_toInt (by omega)]
  rfl
theorem c_need {g : zg_G} {n : zg_N} (hC : CSh g) (c : Prop) [Decidable c] : PW zm_X1_need 6 (cN xIAE 1 c g n) 1 6 0 [(0, .ref aX), (1, .int (zb c))] [] g n := by
  refine pw_iload_n dX1_need_0 1 rfl rfl ?_
  refine pw_if_eq_B 5 dX1_need_1 (by decide) (fun c_1 => ?_) (fun c_1 => ?_)
  · refine pw_aload_n dX1_need_5 0 rfl rfl ?_
    refine pw_getr 11 zc_X1 (cs_this hC) (by decide) q709 (Or.inr ⟨_, rfl⟩) (cr_refused hC) dX1_need_6 ?_
    refine pw_iconst (v := 1) dX1_need_9 (by decide) ?_
    refine pw_dup2_11 dX1_need_10 rfl rfl ?_
    refine pw_iald 1 rfl (cs_refused hC) (by decide) (by decide) dX1_need_11 ?_
    refine pw_iconst (v := 1) dX1_need_12 (by decide) ?_
    refine pw_iadd dX1_need_13 ?_
    refine pw_iast 1 rfl (cs_refused hC) (by decide) (by decide) (by decide) dX1_need_14 ?_
    refine pw_throw0 (cls := "java/lang/IllegalArgumentException") (names := ["java/lang/RuntimeException", "java/lang/Exception"]) (by decide +kernel) (by decide +kernel) q1003 q133 (by decide +kernel) rfl (by decide) (Nat.le_of_ble_eq_true rfl) dX1_need_15 dX1_need_18 dX1_need_19 dX1_need_22 (fun x a hxa hax => ?_)
    exact Or.inr ⟨a, x, rfl, c_1, by omega, rfl, rfl⟩
  · refine pw_vret rfl dX1_need_4 ?_
    exact Or.inl ⟨rfl, c_1, rfl, rfl⟩
theorem c_needIn {g : zg_G} {n : zg_N} (hC : CSh g) (k : Int32) (m : Nat) (hm : m < 2147483648) : PW zm_X1_needIn 6 (cN xIOB 0 (inB k m = true) g n) 1 6 0 [(0, .ref aX), (1, .int k), (2, .int (nI m))] [] g n := by
  have ht : ¬ k < 0 → ¬ nI m ≤ k → inB k m = true := fun h1 h2 => (inB_lt hm).mpr ⟨Int32.not_lt.mp h1, Int32.not_le.mp h2⟩
  refine pw_iload_n dX1_needIn_0 1 rfl rfl ?_
  refine pw_if_lt 10 dX1_needIn_1 (by decide) (fun c_1 => ?_) (fun c_1 => ?_)
  · refine pw_aload_n dX1_needIn_10 0 rfl rfl ?_
    refine pw_getr 11 zc_X1 (cs_this hC) (by decide) q709 (Or.inr ⟨_, rfl⟩) (cr_refused hC) dX1_needIn_11 ?_
    refine pw_iconst (v := 0) dX1_needIn_14 (by decide) ?_
    refine pw_dup2_11 dX1_needIn_15 rfl rfl ?_
    refine pw_iald 0 rfl (cs_refused hC) (by decide) (by decide) dX1_needIn_16 ?_
    refine pw_iconst (v := 1) dX1_needIn_17 (by decide) ?_
    refine pw_iadd dX1_needIn_18 ?_
    refine pw_iast 0 rfl (cs_refused hC) (by decide) (by decide) (by decide) dX1_needIn_19 ?_
    refine pw_throw0 (cls := "java/lang/IndexOutOfBoundsException") (names := ["java/lang/RuntimeException", "java/lang/Exception"]) (by decide +kernel) (by decide +kernel) q1595 q165 (by decide +kernel) rfl (by decide) (Nat.le_of_ble_eq_true rfl) dX1_needIn_20 dX1_needIn_23 dX1_needIn_24 dX1_needIn_27 (fun x a hxa hax => ?_)
    first
    | exact Or.inr ⟨a, x, rfl, fun h => absurd ((inB_lt hm).mp h).1 (by rw [Int32.not_le]; exact c_1), by omega, rfl, rfl⟩
    | exact Or.inr ⟨a, x, rfl, fun h => absurd ((inB_lt hm).mp h).2 (by rw [Int32.not_lt]; exact c_6), by omega, rfl, rfl⟩
  · refine pw_iload_n dX1_needIn_4 1 rfl rfl ?_
    refine pw_iload_n dX1_needIn_5 2 rfl rfl ?_
    refine pw_icmp_ge 10 dX1_needIn_6 (by decide) (fun c_6 => ?_) (fun c_6 => ?_)
    · refine pw_aload_n dX1_needIn_10 0 rfl rfl ?_
      refine pw_getr 11 zc_X1 (cs_this hC) (by decide) q709 (Or.inr ⟨_, rfl⟩) (cr_refused hC) dX1_needIn_11 ?_
      refine pw_iconst (v := 0) dX1_needIn_14 (by decide) ?_
      refine pw_dup2_11 dX1_needIn_15 rfl rfl ?_
      refine pw_iald 0 rfl (cs_refused hC) (by decide) (by decide) dX1_needIn_16 ?_
      refine pw_iconst (v := 1) dX1_needIn_17 (by decide) ?_
      refine pw_iadd dX1_needIn_18 ?_
      refine pw_iast 0 rfl (cs_refused hC) (by decide) (by decide) (by decide) dX1_needIn_19 ?_
      refine pw_throw0 (cls := "java/lang/IndexOutOfBoundsException") (names := ["java/lang/RuntimeException", "java/lang/Exception"]) (by decide +kernel) (by decide +kernel) q1595 q165 (by decide +kernel) rfl (by decide) (Nat.le_of_ble_eq_true rfl) dX1_needIn_20 dX1_needIn_23 dX1_needIn_24 dX1_needIn_27 (fun x a hxa hax => ?_)
      first
      | exact Or.inr ⟨a, x, rfl, fun h => absurd ((inB_lt hm).mp h).1 (by rw [Int32.not_le]; exact c_1), by omega, rfl, rfl⟩
      | exact Or.inr ⟨a, x, rfl, fun h => absurd ((inB_lt hm).mp h).2 (by rw [Int32.not_lt]; exact c_6), by omega, rfl, rfl⟩
    · refine pw_vret rfl dX1_needIn_9 ?_
      exact Or.inl ⟨rfl, ht c_1 c_6, rfl, rfl⟩
theorem c_needFew {g : zg_G} {n : zg_N} {w : cW} {S : zS} (hG : CG g w) (hV : CV g n w S) (hW : WF S) : PW zm_X1_needFew 6 (cN xISE 2 (decide (sN S 0 1 ≤ 7) = true) g n) 1 6 0 [(0, .ref aX)] [] g n := by
  have hC := hG.sh
  have hJ := hG.j
  have hs := hW.slips
  refine pw_aload_n dX1_needFew_0 0 rfl rfl ?_
  refine pw_getr 0 zc_X1 (cs_this hC) (by decide) q694 (Or.inl ⟨_, rfl⟩) (cr_jar hG) dX1_needFew_1 ?_
  refine pw_getiN 3 zc_X2 (cs_jar hJ) (by decide) q536 (Or.inl rfl) dX1_needFew_4 ?_
  rw [hV.j.sl]
  refine pw_bipush (v := 7) dX1_needFew_7 (by decide) ?_
  refine pw_icmp_gt_N (b := 7) 13 dX1_needFew_9 (by decide) (by omega) (by omega) (fun c_9 => ?_) (fun c_9 => ?_)
  · refine pw_aload_n dX1_needFew_13 0 rfl rfl ?_
    refine pw_getr 11 zc_X1 (cs_this hC) (by decide) q709 (Or.inr ⟨_, rfl⟩) (cr_refused hC) dX1_needFew_14 ?_
    refine pw_iconst (v := 2) dX1_needFew_17 (by decide) ?_
    refine pw_dup2_11 dX1_needFew_18 rfl rfl ?_
    refine pw_iald 2 rfl (cs_refused hC) (by decide) (by decide) dX1_needFew_19 ?_
    refine pw_iconst (v := 1) dX1_needFew_20 (by decide) ?_
    refine pw_iadd dX1_needFew_21 ?_
    refine pw_iast 2 rfl (cs_refused hC) (by decide) (by decide) (by decide) dX1_needFew_22 ?_
    refine pw_throw0 (cls := "java/lang/IllegalStateException") (names := ["java/lang/RuntimeException", "java/lang/Exception"]) (by decide +kernel) (by decide +kernel) q1698 q167 (by decide +kernel) rfl (by decide) (Nat.le_of_ble_eq_true rfl) dX1_needFew_23 dX1_needFew_26 dX1_needFew_27 dX1_needFew_30 (fun x a hxa hax => ?_)
    exact Or.inr ⟨a, x, rfl, by rw [decide_eq_true_eq]; omega, by omega, rfl, rfl⟩
  · refine pw_vret rfl dX1_needFew_12 ?_
    exact Or.inl ⟨rfl, by rw [decide_eq_true_eq]; omega, rfl, rfl⟩
theorem c_isWeek (x : Int32) (g : zg_G) (n : zg_N) : PW zm_X1_isWeek 1 (zE (some (.int (zb (inB x 52 = true)))) g n) 0 0 0 [(0, .int x)] [] g n := by
  refine pw_iload_n dX1_isWeek_0 0 rfl rfl ?_
  refine pw_if_lt 14 dX1_isWeek_1 (by decide) (fun c_1 => ?_) (fun c_1 => ?_)
  · refine pw_iconst (v := 0) dX1_isWeek_14 (by decide) ?_
    refine pw_zret _ rfl rfl dX1_isWeek_15 ?_
    exact ⟨by rw [zb_f (fun h => absurd ((inB_lt (by decide)).mp h).1 (by rw [Int32.not_le]; exact c_1))], rfl, rfl⟩
  · refine pw_iload_n dX1_isWeek_4 0 rfl rfl ?_
    refine pw_bipush (v := 52) dX1_isWeek_5 (by decide) ?_
    refine pw_icmp_ge 14 dX1_isWeek_7 (by decide) (fun c_7 => ?_) (fun c_7 => ?_)
    · refine pw_iconst (v := 0) dX1_isWeek_14 (by decide) ?_
      refine pw_zret _ rfl rfl dX1_isWeek_15 ?_
      exact ⟨by rw [zb_f (fun h => absurd ((inB_lt (by decide)).mp h).2 (by rw [Int32.not_lt]; exact c_7))], rfl, rfl⟩
    · refine pw_iconst (v := 1) dX1_isWeek_10 (by decide) ?_
      refine pw_goto 15 dX1_isWeek_11 (by decide) ?_
      refine pw_zret _ rfl rfl dX1_isWeek_15 ?_
      exact ⟨by rw [zb_t ((inB_lt (by decide)).mpr ⟨Int32.not_lt.mp c_1, Int32.not_le.mp c_7⟩)], rfl, rfl⟩
theorem c_isLaw (x : Int32) (g : zg_G) (n : zg_N) : PW zm_X1_isLaw 1 (zE (some (.int (zb (inB x 5 = true)))) g n) 0 0 0 [(0, .int x)] [] g n := by
  refine pw_iload_n dX1_isLaw_0 0 rfl rfl ?_
  refine pw_if_lt 13 dX1_isLaw_1 (by decide) (fun c_1 => ?_) (fun c_1 => ?_)
  · refine pw_iconst (v := 0) dX1_isLaw_13 (by decide) ?_
    refine pw_zret _ rfl rfl dX1_isLaw_14 ?_
    exact ⟨by rw [zb_f (fun h => absurd ((inB_lt (by decide)).mp h).1 (by rw [Int32.not_le]; exact c_1))], rfl, rfl⟩
  · refine pw_iload_n dX1_isLaw_4 0 rfl rfl ?_
    refine pw_iconst (v := 5) dX1_isLaw_5 (by decide) ?_
    refine pw_icmp_ge 13 dX1_isLaw_6 (by decide) (fun c_6 => ?_) (fun c_6 => ?_)
    · refine pw_iconst (v := 0) dX1_isLaw_13 (by decide) ?_
      refine pw_zret _ rfl rfl dX1_isLaw_14 ?_
      exact ⟨by rw [zb_f (fun h => absurd ((inB_lt (by decide)).mp h).2 (by rw [Int32.not_lt]; exact c_6))], rfl, rfl⟩
    · refine pw_iconst (v := 1) dX1_isLaw_9 (by decide) ?_
      refine pw_goto 14 dX1_isLaw_10 (by decide) ?_
      refine pw_zret _ rfl rfl dX1_isLaw_14 ?_
      exact ⟨by rw [zb_t ((inB_lt (by decide)).mpr ⟨Int32.not_lt.mp c_1, Int32.not_le.mp c_6⟩)], rfl, rfl⟩

