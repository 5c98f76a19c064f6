set_option maxRecDepth 100000
theorem zc_X1 : zCF RX1 TX1 30 0 tyX1 := ⟨rfl, in_X1, tyX1_ok, nmX1, rfl⟩
theorem zc_X2 : zCF RX2 TX2 8 1 tyX2 := ⟨rfl, in_X2, tyX2_ok, nmX2, rfl⟩
theorem zc_X3 : zCF RX3 TX3 2 2 tyX3 := ⟨rfl, in_X3, tyX3_ok, nmX3, rfl⟩
theorem zc_X4 : zCF RX4 TX4 3 3 tyX4 := ⟨rfl, in_X4, tyX4_ok, nmX4, rfl⟩
theorem zc_X5 : zCF RX5 TX5 13 4 tyX5 := ⟨rfl, in_X5, tyX5_ok, nmX5, rfl⟩
theorem zc_X6 : zCF RX6 TX6 62 5 tyX6 := ⟨rfl, in_X6, tyX6_ok, nmX6, rfl⟩
theorem zc_X7 : zCF RX7 TX7 6 6 tyX7 := ⟨rfl, in_X7, tyX7_ok, nmX7, rfl⟩
theorem zc_X8 : zCF RX8 TX8 8 7 tyX8 := ⟨rfl, in_X8, tyX8_ok, nmX8, rfl⟩
theorem zc_X9 : zCF RX9 TX9 2 8 tyX9 := ⟨rfl, in_X9, tyX9_ok, nmX9, rfl⟩
theorem zc_X10 : zCF RX10 TX10 5 9 tyX10 := ⟨rfl, in_X10, tyX10_ok, nmX10, rfl⟩
theorem zc_X12 : zCF RX12 TX12 2 10 tyX12 := ⟨rfl, in_X12, tyX12_ok, nmX12, rfl⟩
theorem zc_X13 : zCF RX13 TX13 1 11 tyX13 := ⟨rfl, in_X13, tyX13_ok, nmX13, rfl⟩
theorem zc_X15 : zCF RX15 TX15 2 12 tyX15 := ⟨rfl, in_X15, tyX15_ok, nmX15, rfl⟩
theorem zc_X16 : zCF RX16 TX16 1 13 tyX16 := ⟨rfl, in_X16, tyX16_ok, nmX16, rfl⟩
theorem zc_X17 : zCF RX17 TX17 1 14 tyX17 := ⟨rfl, in_X17, tyX17_ok, nmX17, rfl⟩
theorem zc_X18 : zCF RX18 TX18 3 15 tyX18 := ⟨rfl, in_X18, tyX18_ok, nmX18, rfl⟩
theorem zc_J2 : zCF RJ2 TJ2 3 16 tyJ2 := ⟨rfl, in_J2, tyJ2_ok, nmJ2, rfl⟩
theorem zc_J8 : zCF RJ8 TJ8 4 17 tyJ8 := ⟨rfl, in_J8, tyJ8_ok, nmJ8, rfl⟩
theorem zc_J9 : zCF RJ9 TJ9 4 18 tyJ9 := ⟨rfl, in_J9, tyJ9_ok, nmJ9, rfl⟩
theorem zc_J17 : zCF RJ17 TJ17 1 19 tyJ17 := ⟨rfl, in_J17, tyJ17_ok, nmJ17, rfl⟩
theorem q_oi1 : Cond.instanceMethod Lib.objectInit ∈ lw_all := lw_w (lw_tbl.findIdx (fun w => decide (w = Cond.instanceMethod Lib.objectInit))) (by decide +kernel) rfl
theorem q_oi2 : Cond.code Lib.objectInit ⟨#[0xb1]⟩ 1 none ∈ lw_all := lw_w (lw_tbl.findIdx (fun w => decide (w = Cond.code Lib.objectInit ⟨#[0xb1]⟩ 1 none))) (by decide +kernel) rfl
theorem zE_kk {Y : zY} {d : Nat} {P : zP} {bc bs pc : Nat} {ls : List (Nat × Value)} {rest : List Value} {v : Option Value} {g : zg_G} {n : zg_N} (h : PW Y d P bc bs pc ls (v.toList ++ rest) g n) : ∀ v1 g1 n1, zE v g n (.inl v1) g1 n1 → PW Y d P bc bs pc ls (v1.toList ++ rest) g1 n1 := by
  intro v1 g1 n1 hh
  obtain ⟨h1, rfl, rfl⟩ := hh
  cases h1
  exact h
/-! the reference lies at 1045, its arrays behind it -/
abbrev aT : Nat := 1045
abbrev at_fed : Nat := 1046
abbrev tf_fed : Nat := 9
abbrev at_refused : Nat := 1047
abbrev tf_refused : Nat := 10
abbrev at_readTold : Nat := 1048
abbrev tf_readTold : Nat := 11
abbrev at_told : Nat := 1049
abbrev tf_told : Nat := 12
abbrev at_readWeek : Nat := 1050
abbrev tf_readWeek : Nat := 13
abbrev at_seeWeek : Nat := 1051
abbrev tf_seeWeek : Nat := 14
abbrev at_readModels : Nat := 1052
abbrev tf_readModels : Nat := 15
abbrev at_models : Nat := 1053
abbrev tf_models : Nat := 16
abbrev at_readSeen : Nat := 1054
abbrev tf_readSeen : Nat := 17
abbrev at_seen : Nat := 1055
abbrev tf_seen : Nat := 18
abbrev at_leftIn : Nat := 1056
abbrev tf_leftIn : Nat := 19
abbrev at_order : Nat := 1057
abbrev tf_order : Nat := 21
abbrev at_kept : Nat := 1058
abbrev tf_kept : Nat := 24
abbrev at_who : Nat := 1062
abbrev tf_who : Nat := 29
abbrev at_readWho : Nat := 1073
abbrev tf_readWho : Nat := 30
abbrev at_code : Nat := 1084
abbrev tf_code : Nat := 31
abbrev at_readCode : Nat := 1305
abbrev tf_readCode : Nat := 32
abbrev at_stack : Nat := 1526
abbrev tf_stack : Nat := 33
abbrev at_row : Nat := 1527
abbrev tf_row : Nat := 34
abbrev at_heldRow : Nat := 1528
abbrev tf_heldRow : Nat := 35
abbrev at_drawnIn : Nat := 1529
abbrev tf_drawnIn : Nat := 36
abbrev at_fellIn : Nat := 1530
abbrev tf_fellIn : Nat := 37
abbrev at_fellBy : Nat := 1531
abbrev tf_fellBy : Nat := 38
abbrev at_weeksOf : Nat := 1532
abbrev tf_weeksOf : Nat := 39
abbrev at_hurtsOf : Nat := 1533
abbrev tf_hurtsOf : Nat := 40
abbrev at_heldBehind : Nat := 1534
abbrev tf_heldBehind : Nat := 41
abbrev at_eldestBehind : Nat := 1535
abbrev tf_eldestBehind : Nat := 42
abbrev at_meets : Nat := 1536
abbrev tf_meets : Nat := 49
abbrev at_been : Nat := 1537
abbrev tf_been : Nat := 50
abbrev at_holds : Nat := 1538
abbrev tf_holds : Nat := 51
abbrev at_bestRow : Nat := 1539
abbrev tf_bestRow : Nat := 58
abbrev at_worstRow : Nat := 1540
abbrev tf_worstRow : Nat := 59
abbrev at_schoolBehind : Nat := 1541
abbrev tf_schoolBehind : Nat := 60
abbrev at_plainOf : Nat := 1544
abbrev tf_plainOf : Nat := 61
abbrev tf_thrown : Nat := 0
abbrev tf_tape : Nat := 1
abbrev tf_size : Nat := 2
abbrev tf_place : Nat := 3
abbrev tf_at : Nat := 4
abbrev tf_fault : Nat := 5
abbrev tf_faultAt : Nat := 6
abbrev tf_clauses : Nat := 7
abbrev tf_open : Nat := 8
abbrev tf_question : Nat := 20
abbrev tf_images : Nat := 22
abbrev tf_spot : Nat := 23
abbrev tf_whos : Nat := 25
abbrev tf_readWhos : Nat := 26
abbrev tf_codes : Nat := 27
abbrev tf_readCodes : Nat := 28
abbrev tf_rowMany : Nat := 43
abbrev tf_heldMany : Nat := 44
abbrev tf_fell : Nat := 45
abbrev tf_killed : Nat := 46
abbrev tf_hurts : Nat := 47
abbrev tf_yearLaw : Nat := 48
abbrev tf_always : Nat := 52
abbrev tf_ever : Nat := 53
abbrev tf_unlike : Nat := 54
abbrev tf_trues : Nat := 55
abbrev tf_bestTrues : Nat := 56
abbrev tf_worstHurts : Nat := 57
-- the next free: 1545
abbrev tArr : List (Nat × Nat × Nat × Nat) := [(9, 1046, 0, 600), (10, 1047, 0, 3), (11, 1048, 0, 6), (12, 1049, 0, 6), (13, 1050, 0, 12), (14, 1051, 0, 12), (15, 1052, 1, 17), (16, 1053, 1, 17), (17, 1054, 1, 12), (18, 1055, 1, 12), (19, 1056, 1, 52), (21, 1057, 0, 12), (24, 1058, 6, 3), (29, 1062, 6, 10), (30, 1073, 6, 10), (31, 1084, 6, 220), (32, 1305, 6, 220), (33, 1526, 0, 220), (34, 1527, 0, 17), (35, 1528, 0, 17), (36, 1529, 0, 17), (37, 1530, 0, 17), (38, 1531, 0, 17), (39, 1532, 0, 17), (40, 1533, 0, 17), (41, 1534, 0, 52), (42, 1535, 0, 52), (49, 1536, 0, 6), (50, 1537, 3, 128), (51, 1538, 0, 7), (58, 1539, 0, 12), (59, 1540, 0, 12), (60, 1541, 6, 2), (61, 1544, 0, 256)]
abbrev tTwo : List (Nat × Nat × Nat) := [(1058, 3, 14), (1062, 10, 3), (1073, 10, 3), (1084, 220, 2), (1305, 220, 2), (1541, 2, 52)]
def TSh (g : zg_G) : Prop := zsh g aT = some (.inl 5) ∧ (∀ q ∈ tArr, zfr g aT q.1 = some q.2.1 ∧ zsh g q.2.1 = some (.inr q.2.2)) ∧ ∀ q ∈ tTwo, ∀ r, r < q.2.1 → zar g q.1 r = some (q.1 + 1 + r) ∧ zsh g (q.1 + 1 + r) = some (.inr (0, q.2.2))
theorem ts_this {g : zg_G} (h : TSh g) : zsh g aT = some (.inl 5) := h.1
theorem tr_fed {g : zg_G} (h : TSh g) : zfr g aT 9 = some at_fed := (h.2.1 _ (List.mem_of_getElem? (i := 0) rfl)).1
theorem ts_fed {g : zg_G} (h : TSh g) : zsh g at_fed = some (.inr (0, 600)) := (h.2.1 _ (List.mem_of_getElem? (i := 0) rfl)).2
theorem tr_refused {g : zg_G} (h : TSh g) : zfr g aT 10 = some at_refused := (h.2.1 _ (List.mem_of_getElem? (i := 1) rfl)).1
theorem ts_refused {g : zg_G} (h : TSh g) : zsh g at_refused = some (.inr (0, 3)) := (h.2.1 _ (List.mem_of_getElem? (i := 1) rfl)).2
theorem tr_readTold {g : zg_G} (h : TSh g) : zfr g aT 11 = some at_readTold := (h.2.1 _ (List.mem_of_getElem? (i := 2) rfl)).1
theorem ts_readTold {g : zg_G} (h : TSh g) : zsh g at_readTold = some (.inr (0, 6)) := (h.2.1 _ (List.mem_of_getElem? (i := 2) rfl)).2
theorem tr_told {g : zg_G} (h : TSh g) : zfr g aT 12 = some at_told := (h.2.1 _ (List.mem_of_getElem? (i := 3) rfl)).1
theorem ts_told {g : zg_G} (h : TSh g) : zsh g at_told = some (.inr (0, 6)) := (h.2.1 _ (List.mem_of_getElem? (i := 3) rfl)).2
theorem tr_readWeek {g : zg_G} (h : TSh g) : zfr g aT 13 = some at_readWeek := (h.2.1 _ (List.mem_of_getElem? (i := 4) rfl)).1
theorem ts_readWeek {g : zg_G} (h : TSh g) : zsh g at_readWeek = some (.inr (0, 12)) := (h.2.1 _ (List.mem_of_getElem? (i := 4) rfl)).2
theorem tr_seeWeek {g : zg_G} (h : TSh g) : zfr g aT 14 = some at_seeWeek := (h.2.1 _ (List.mem_of_getElem? (i := 5) rfl)).1
theorem ts_seeWeek {g : zg_G} (h : TSh g) : zsh g at_seeWeek = some (.inr (0, 12)) := (h.2.1 _ (List.mem_of_getElem? (i := 5) rfl)).2
theorem tr_readModels {g : zg_G} (h : TSh g) : zfr g aT 15 = some at_readModels := (h.2.1 _ (List.mem_of_getElem? (i := 6) rfl)).1
theorem ts_readModels {g : zg_G} (h : TSh g) : zsh g at_readModels = some (.inr (1, 17)) := (h.2.1 _ (List.mem_of_getElem? (i := 6) rfl)).2
theorem tr_models {g : zg_G} (h : TSh g) : zfr g aT 16 = some at_models := (h.2.1 _ (List.mem_of_getElem? (i := 7) rfl)).1
theorem ts_models {g : zg_G} (h : TSh g) : zsh g at_models = some (.inr (1, 17)) := (h.2.1 _ (List.mem_of_getElem? (i := 7) rfl)).2
theorem tr_readSeen {g : zg_G} (h : TSh g) : zfr g aT 17 = some at_readSeen := (h.2.1 _ (List.mem_of_getElem? (i := 8) rfl)).1
theorem ts_readSeen {g : zg_G} (h : TSh g) : zsh g at_readSeen = some (.inr (1, 12)) := (h.2.1 _ (List.mem_of_getElem? (i := 8) rfl)).2
theorem tr_seen {g : zg_G} (h : TSh g) : zfr g aT 18 = some at_seen := (h.2.1 _ (List.mem_of_getElem? (i := 9) rfl)).1
theorem ts_seen {g : zg_G} (h : TSh g) : zsh g at_seen = some (.inr (1, 12)) := (h.2.1 _ (List.mem_of_getElem? (i := 9) rfl)).2
theorem tr_leftIn {g : zg_G} (h : TSh g) : zfr g aT 19 = some at_leftIn := (h.2.1 _ (List.mem_of_getElem? (i := 10) rfl)).1
theorem ts_leftIn {g : zg_G} (h : TSh g) : zsh g at_leftIn = some (.inr (1, 52)) := (h.2.1 _ (List.mem_of_getElem? (i := 10) rfl)).2
theorem tr_order {g : zg_G} (h : TSh g) : zfr g aT 21 = some at_order := (h.2.1 _ (List.mem_of_getElem? (i := 11) rfl)).1
theorem ts_order {g : zg_G} (h : TSh g) : zsh g at_order = some (.inr (0, 12)) := (h.2.1 _ (List.mem_of_getElem? (i := 11) rfl)).2
theorem tr_kept {g : zg_G} (h : TSh g) : zfr g aT 24 = some at_kept := (h.2.1 _ (List.mem_of_getElem? (i := 12) rfl)).1
theorem ts_kept {g : zg_G} (h : TSh g) : zsh g at_kept = some (.inr (6, 3)) := (h.2.1 _ (List.mem_of_getElem? (i := 12) rfl)).2
theorem tr_who {g : zg_G} (h : TSh g) : zfr g aT 29 = some at_who := (h.2.1 _ (List.mem_of_getElem? (i := 13) rfl)).1
theorem ts_who {g : zg_G} (h : TSh g) : zsh g at_who = some (.inr (6, 10)) := (h.2.1 _ (List.mem_of_getElem? (i := 13) rfl)).2
theorem tr_readWho {g : zg_G} (h : TSh g) : zfr g aT 30 = some at_readWho := (h.2.1 _ (List.mem_of_getElem? (i := 14) rfl)).1
theorem ts_readWho {g : zg_G} (h : TSh g) : zsh g at_readWho = some (.inr (6, 10)) := (h.2.1 _ (List.mem_of_getElem? (i := 14) rfl)).2
theorem tr_code {g : zg_G} (h : TSh g) : zfr g aT 31 = some at_code := (h.2.1 _ (List.mem_of_getElem? (i := 15) rfl)).1
theorem ts_code {g : zg_G} (h : TSh g) : zsh g at_code = some (.inr (6, 220)) := (h.2.1 _ (List.mem_of_getElem? (i := 15) rfl)).2
theorem tr_readCode {g : zg_G} (h : TSh g) : zfr g aT 32 = some at_readCode := (h.2.1 _ (List.mem_of_getElem? (i := 16) rfl)).1
theorem ts_readCode {g : zg_G} (h : TSh g) : zsh g at_readCode = some (.inr (6, 220)) := (h.2.1 _ (List.mem_of_getElem? (i := 16) rfl)).2
theorem tr_stack {g : zg_G} (h : TSh g) : zfr g aT 33 = some at_stack := (h.2.1 _ (List.mem_of_getElem? (i := 17) rfl)).1
theorem ts_stack {g : zg_G} (h : TSh g) : zsh g at_stack = some (.inr (0, 220)) := (h.2.1 _ (List.mem_of_getElem? (i := 17) rfl)).2
theorem tr_row {g : zg_G} (h : TSh g) : zfr g aT 34 = some at_row := (h.2.1 _ (List.mem_of_getElem? (i := 18) rfl)).1
theorem ts_row {g : zg_G} (h : TSh g) : zsh g at_row = some (.inr (0, 17)) := (h.2.1 _ (List.mem_of_getElem? (i := 18) rfl)).2
theorem tr_heldRow {g : zg_G} (h : TSh g) : zfr g aT 35 = some at_heldRow := (h.2.1 _ (List.mem_of_getElem? (i := 19) rfl)).1
theorem ts_heldRow {g : zg_G} (h : TSh g) : zsh g at_heldRow = some (.inr (0, 17)) := (h.2.1 _ (List.mem_of_getElem? (i := 19) rfl)).2
theorem tr_drawnIn {g : zg_G} (h : TSh g) : zfr g aT 36 = some at_drawnIn := (h.2.1 _ (List.mem_of_getElem? (i := 20) rfl)).1
theorem ts_drawnIn {g : zg_G} (h : TSh g) : zsh g at_drawnIn = some (.inr (0, 17)) := (h.2.1 _ (List.mem_of_getElem? (i := 20) rfl)).2
theorem tr_fellIn {g : zg_G} (h : TSh g) : zfr g aT 37 = some at_fellIn := (h.2.1 _ (List.mem_of_getElem? (i := 21) rfl)).1
theorem ts_fellIn {g : zg_G} (h : TSh g) : zsh g at_fellIn = some (.inr (0, 17)) := (h.2.1 _ (List.mem_of_getElem? (i := 21) rfl)).2
theorem tr_fellBy {g : zg_G} (h : TSh g) : zfr g aT 38 = some at_fellBy := (h.2.1 _ (List.mem_of_getElem? (i := 22) rfl)).1
theorem ts_fellBy {g : zg_G} (h : TSh g) : zsh g at_fellBy = some (.inr (0, 17)) := (h.2.1 _ (List.mem_of_getElem? (i := 22) rfl)).2
theorem tr_weeksOf {g : zg_G} (h : TSh g) : zfr g aT 39 = some at_weeksOf := (h.2.1 _ (List.mem_of_getElem? (i := 23) rfl)).1
theorem ts_weeksOf {g : zg_G} (h : TSh g) : zsh g at_weeksOf = some (.inr (0, 17)) := (h.2.1 _ (List.mem_of_getElem? (i := 23) rfl)).2
theorem tr_hurtsOf {g : zg_G} (h : TSh g) : zfr g aT 40 = some at_hurtsOf := (h.2.1 _ (List.mem_of_getElem? (i := 24) rfl)).1
theorem ts_hurtsOf {g : zg_G} (h : TSh g) : zsh g at_hurtsOf = some (.inr (0, 17)) := (h.2.1 _ (List.mem_of_getElem? (i := 24) rfl)).2
theorem tr_heldBehind {g : zg_G} (h : TSh g) : zfr g aT 41 = some at_heldBehind := (h.2.1 _ (List.mem_of_getElem? (i := 25) rfl)).1
theorem ts_heldBehind {g : zg_G} (h : TSh g) : zsh g at_heldBehind = some (.inr (0, 52)) := (h.2.1 _ (List.mem_of_getElem? (i := 25) rfl)).2
theorem tr_eldestBehind {g : zg_G} (h : TSh g) : zfr g aT 42 = some at_eldestBehind := (h.2.1 _ (List.mem_of_getElem? (i := 26) rfl)).1
theorem ts_eldestBehind {g : zg_G} (h : TSh g) : zsh g at_eldestBehind = some (.inr (0, 52)) := (h.2.1 _ (List.mem_of_getElem? (i := 26) rfl)).2
theorem tr_meets {g : zg_G} (h : TSh g) : zfr g aT 49 = some at_meets := (h.2.1 _ (List.mem_of_getElem? (i := 27) rfl)).1
theorem ts_meets {g : zg_G} (h : TSh g) : zsh g at_meets = some (.inr (0, 6)) := (h.2.1 _ (List.mem_of_getElem? (i := 27) rfl)).2
theorem tr_been {g : zg_G} (h : TSh g) : zfr g aT 50 = some at_been := (h.2.1 _ (List.mem_of_getElem? (i := 28) rfl)).1
theorem ts_been {g : zg_G} (h : TSh g) : zsh g at_been = some (.inr (3, 128)) := (h.2.1 _ (List.mem_of_getElem? (i := 28) rfl)).2
theorem tr_holds {g : zg_G} (h : TSh g) : zfr g aT 51 = some at_holds := (h.2.1 _ (List.mem_of_getElem? (i := 29) rfl)).1
theorem ts_holds {g : zg_G} (h : TSh g) : zsh g at_holds = some (.inr (0, 7)) := (h.2.1 _ (List.mem_of_getElem? (i := 29) rfl)).2
theorem tr_bestRow {g : zg_G} (h : TSh g) : zfr g aT 58 = some at_bestRow := (h.2.1 _ (List.mem_of_getElem? (i := 30) rfl)).1
theorem ts_bestRow {g : zg_G} (h : TSh g) : zsh g at_bestRow = some (.inr (0, 12)) := (h.2.1 _ (List.mem_of_getElem? (i := 30) rfl)).2
theorem tr_worstRow {g : zg_G} (h : TSh g) : zfr g aT 59 = some at_worstRow := (h.2.1 _ (List.mem_of_getElem? (i := 31) rfl)).1
theorem ts_worstRow {g : zg_G} (h : TSh g) : zsh g at_worstRow = some (.inr (0, 12)) := (h.2.1 _ (List.mem_of_getElem? (i := 31) rfl)).2
theorem tr_schoolBehind {g : zg_G} (h : TSh g) : zfr g aT 60 = some at_schoolBehind := (h.2.1 _ (List.mem_of_getElem? (i := 32) rfl)).1
theorem ts_schoolBehind {g : zg_G} (h : TSh g) : zsh g at_schoolBehind = some (.inr (6, 2)) := (h.2.1 _ (List.mem_of_getElem? (i := 32) rfl)).2
theorem tr_plainOf {g : zg_G} (h : TSh g) : zfr g aT 61 = some at_plainOf := (h.2.1 _ (List.mem_of_getElem? (i := 33) rfl)).1
theorem ts_plainOf {g : zg_G} (h : TSh g) : zsh g at_plainOf = some (.inr (0, 256)) := (h.2.1 _ (List.mem_of_getElem? (i := 33) rfl)).2
theorem tw_kept {g : zg_G} (h : TSh g) (r : Nat) (hr : r < 3) : zar g at_kept r = some (at_kept + 1 + r) := (h.2.2 _ (List.mem_of_getElem? (i := 0) rfl) r hr).1
theorem tv_kept {g : zg_G} (h : TSh g) (r : Nat) (hr : r < 3) : zsh g (at_kept + 1 + r) = some (.inr (0, 14)) := (h.2.2 _ (List.mem_of_getElem? (i := 0) rfl) r hr).2
theorem tw_who {g : zg_G} (h : TSh g) (r : Nat) (hr : r < 10) : zar g at_who r = some (at_who + 1 + r) := (h.2.2 _ (List.mem_of_getElem? (i := 1) rfl) r hr).1
theorem tv_who {g : zg_G} (h : TSh g) (r : Nat) (hr : r < 10) : zsh g (at_who + 1 + r) = some (.inr (0, 3)) := (h.2.2 _ (List.mem_of_getElem? (i := 1) rfl) r hr).2
theorem tw_readWho {g : zg_G} (h : TSh g) (r : Nat) (hr : r < 10) : zar g at_readWho r = some (at_readWho + 1 + r) := (h.2.2 _ (List.mem_of_getElem? (i := 2) rfl) r hr).1
theorem tv_readWho {g : zg_G} (h : TSh g) (r : Nat) (hr : r < 10) : zsh g (at_readWho + 1 + r) = some (.inr (0, 3)) := (h.2.2 _ (List.mem_of_getElem? (i := 2) rfl) r hr).2
theorem tw_code {g : zg_G} (h : TSh g) (r : Nat) (hr : r < 220) : zar g at_code r = some (at_code + 1 + r) := (h.2.2 _ (List.mem_of_getElem? (i := 3) rfl) r hr).1
theorem tv_code {g : zg_G} (h : TSh g) (r : Nat) (hr : r < 220) : zsh g (at_code + 1 + r) = some (.inr (0, 2)) := (h.2.2 _ (List.mem_of_getElem? (i := 3) rfl) r hr).2
theorem tw_readCode {g : zg_G} (h : TSh g) (r : Nat) (hr : r < 220) : zar g at_readCode r = some (at_readCode + 1 + r) := (h.2.2 _ (List.mem_of_getElem? (i := 4) rfl) r hr).1
theorem tv_readCode {g : zg_G} (h : TSh g) (r : Nat) (hr : r < 220) : zsh g (at_readCode + 1 + r) = some (.inr (0, 2)) := (h.2.2 _ (List.mem_of_getElem? (i := 4) rfl) r hr).2
theorem tw_schoolBehind {g : zg_G} (h : TSh g) (r : Nat) (hr : r < 2) : zar g at_schoolBehind r = some (at_schoolBehind + 1 + r) := (h.2.2 _ (List.mem_of_getElem? (i := 5) rfl) r hr).1
theorem tv_schoolBehind {g : zg_G} (h : TSh g) (r : Nat) (hr : r < 2) : zsh g (at_schoolBehind + 1 + r) = some (.inr (0, 52)) := (h.2.2 _ (List.mem_of_getElem? (i := 5) rfl) r hr).2
theorem TSh.keep {g g' : zg_G} (h : TSh g) (hk : ∀ b, aT ≤ b → b < 1545 → zsh g' b = zsh g b ∧ (∀ k, zfr g' b k = zfr g b k) ∧ ∀ k, zar g' b k = zar g b k) : TSh g' := by
  obtain ⟨h1, h2, h3⟩ := h
  refine ⟨(hk aT (Nat.le_refl _) (by decide)).1.trans h1, fun q hq => ?_, fun q hq r hr => ?_⟩
  · have hb : aT ≤ q.2.1 ∧ q.2.1 < 1545 := (show ∀ q ∈ tArr, aT ≤ q.2.1 ∧ q.2.1 < 1545 by decide) q hq
    exact ⟨((hk aT (Nat.le_refl _) (by decide)).2.1 _).trans (h2 q hq).1, (hk _ hb.1 hb.2).1.trans (h2 q hq).2⟩
  · have hb : aT ≤ q.1 ∧ q.1 + 1 + q.2.1 ≤ 1545 := (show ∀ q ∈ tTwo, aT ≤ q.1 ∧ q.1 + 1 + q.2.1 ≤ 1545 by decide) q hq
    exact ⟨((hk _ hb.1 (by omega)).2.2 _).trans (h3 q hq r hr).1, (hk _ (by omega) (by omega)).1.trans (h3 q hq r hr).2⟩
/-! the class lies at 1000: its cells up to 1044 (what the jar and the tongue at the start were: 1001 to 1008, 1041 to 1044) -/
abbrev aX : Nat := 1000
abbrev xf_jar : Nat := 0
abbrev xf_tongue : Nat := 1
abbrev xf_facts : Nat := 2
abbrev xf_question : Nat := 3
abbrev xf_lefts : Nat := 4
abbrev xf_s : Nat := 5
abbrev xf_taped : Nat := 6
abbrev xf_faultAt : Nat := 7
abbrev xf_imageMany : Nat := 8
abbrev xf_tape : Nat := 9
abbrev xf_images : Nat := 10
abbrev xf_refused : Nat := 11
abbrev xf_school : Nat := 12
abbrev xf_second : Nat := 13
abbrev xf_digits : Nat := 14
abbrev xf_tried : Nat := 15
abbrev xf_ended : Nat := 16
abbrev xf_heldBy : Nat := 17
abbrev xf_best : Nat := 18
abbrev xf_unlike : Nat := 19
abbrev xf_always : Nat := 20
abbrev xf_ever : Nat := 21
abbrev xf_mostTrue : Nat := 22
abbrev xf_allTrue : Nat := 23
abbrev xf_worlds : Nat := 24
abbrev xf_ofFirst : Nat := 25
abbrev xf_ofSecond : Nat := 26
abbrev xf_mostHurt : Nat := 27
abbrev xf_hurtOrder : Nat := 28
abbrev xf_length : Nat := 29
abbrev ax_facts : Nat := 1009
abbrev ax_lefts : Nat := 1010
abbrev ax_tape : Nat := 1013
abbrev ax_images : Nat := 1014
abbrev ax_refused : Nat := 1015
abbrev ax_digits : Nat := 1032
abbrev ax_tried : Nat := 1033
abbrev ax_ended : Nat := 1034
abbrev ax_heldBy : Nat := 1035
abbrev ax_best : Nat := 1036
abbrev ax_worlds : Nat := 1037
abbrev ax_ofFirst : Nat := 1038
abbrev ax_ofSecond : Nat := 1039
abbrev ax_length : Nat := 1040
abbrev ax_s : Nat := 1011
abbrev ax_order : Nat := 1012
abbrev ax_school : Nat := 1016
abbrev ax_second : Nat := 1024
abbrev xArr : List (Nat × Nat × Nat × Nat) := [(2, 1009, 0, 10), (4, 1010, 1, 52), (9, 1013, 2, 600), (10, 1014, 5, 3), (11, 1015, 0, 3), (14, 1032, 0, 12), (15, 1033, 0, 12), (16, 1034, 3, 4096), (17, 1035, 0, 12), (18, 1036, 0, 12), (24, 1037, 1, 4096), (25, 1038, 1, 52), (26, 1039, 1, 52), (29, 1040, 0, 256)]
abbrev sf_chairs : Nat := 0
abbrev sf_drawn : Nat := 1
abbrev sf_fell : Nat := 2
abbrev sf_by : Nat := 3
abbrev sf_weeks : Nat := 4
abbrev sf_hurts : Nat := 5
abbrev sf_heldIn : Nat := 6
abbrev sf_many : Nat := 7
abbrev sf_falls : Nat := 8
abbrev sf_kills : Nat := 9
abbrev sf_lawNow : Nat := 10
abbrev sf_left : Nat := 11
abbrev sf_this_0 : Nat := 12
abbrev stf_order : Nat := 0
abbrev stf_law : Nat := 1
abbrev stf_world : Nat := 2
abbrev sArr : List (Nat × Nat × Nat) := [(0, 1, 17), (1, 2, 17), (2, 3, 17), (3, 4, 17), (4, 5, 17), (5, 6, 17), (6, 7, 52)]
/-- one of the two schools -/
def isSch (a : Nat) : Prop := a = ax_school ∨ a = ax_second
def CSh (g : zg_G) : Prop := zsh g aX = some (.inl 0) ∧ (∀ q ∈ xArr, zfr g aX q.1 = some q.2.1 ∧ zsh g q.2.1 = some (.inr q.2.2)) ∧ (zfr g aX xf_s = some ax_s ∧ zsh g ax_s = some (.inl 3) ∧ zfr g ax_s stf_order = some ax_order ∧ zsh g ax_order = some (.inr (0, 12))) ∧ (zfr g aX xf_school = some ax_school ∧ zfr g aX xf_second = some ax_second) ∧ ∀ a, isSch a → zsh g a = some (.inl 4) ∧ zfr g a sf_this_0 = some aX ∧ ∀ q ∈ sArr, zfr g a q.1 = some (a + q.2.1) ∧ zsh g (a + q.2.1) = some (.inr (0, q.2.2))
theorem cs_this {g : zg_G} (h : CSh g) : zsh g aX = some (.inl 0) := h.1
theorem cr_facts {g : zg_G} (h : CSh g) : zfr g aX 2 = some ax_facts := (h.2.1 _ (List.mem_of_getElem? (i := 0) rfl)).1
theorem cs_facts {g : zg_G} (h : CSh g) : zsh g ax_facts = some (.inr (0, 10)) := (h.2.1 _ (List.mem_of_getElem? (i := 0) rfl)).2
theorem cr_lefts {g : zg_G} (h : CSh g) : zfr g aX 4 = some ax_lefts := (h.2.1 _ (List.mem_of_getElem? (i := 1) rfl)).1
theorem cs_lefts {g : zg_G} (h : CSh g) : zsh g ax_lefts = some (.inr (1, 52)) := (h.2.1 _ (List.mem_of_getElem? (i := 1) rfl)).2
theorem cr_tape {g : zg_G} (h : CSh g) : zfr g aX 9 = some ax_tape := (h.2.1 _ (List.mem_of_getElem? (i := 2) rfl)).1
theorem cs_tape {g : zg_G} (h : CSh g) : zsh g ax_tape = some (.inr (2, 600)) := (h.2.1 _ (List.mem_of_getElem? (i := 2) rfl)).2
theorem cr_images {g : zg_G} (h : CSh g) : zfr g aX 10 = some ax_images := (h.2.1 _ (List.mem_of_getElem? (i := 3) rfl)).1
theorem cs_images {g : zg_G} (h : CSh g) : zsh g ax_images = some (.inr (5, 3)) := (h.2.1 _ (List.mem_of_getElem? (i := 3) rfl)).2
theorem cr_refused {g : zg_G} (h : CSh g) : zfr g aX 11 = some ax_refused := (h.2.1 _ (List.mem_of_getElem? (i := 4) rfl)).1
theorem cs_refused {g : zg_G} (h : CSh g) : zsh g ax_refused = some (.inr (0, 3)) := (h.2.1 _ (List.mem_of_getElem? (i := 4) rfl)).2
theorem cr_digits {g : zg_G} (h : CSh g) : zfr g aX 14 = some ax_digits := (h.2.1 _ (List.mem_of_getElem? (i := 5) rfl)).1
theorem cs_digits {g : zg_G} (h : CSh g) : zsh g ax_digits = some (.inr (0, 12)) := (h.2.1 _ (List.mem_of_getElem? (i := 5) rfl)).2
theorem cr_tried {g : zg_G} (h : CSh g) : zfr g aX 15 = some ax_tried := (h.2.1 _ (List.mem_of_getElem? (i := 6) rfl)).1
theorem cs_tried {g : zg_G} (h : CSh g) : zsh g ax_tried = some (.inr (0, 12)) := (h.2.1 _ (List.mem_of_getElem? (i := 6) rfl)).2
theorem cr_ended {g : zg_G} (h : CSh g) : zfr g aX 16 = some ax_ended := (h.2.1 _ (List.mem_of_getElem? (i := 7) rfl)).1
theorem cs_ended {g : zg_G} (h : CSh g) : zsh g ax_ended = some (.inr (3, 4096)) := (h.2.1 _ (List.mem_of_getElem? (i := 7) rfl)).2
theorem cr_heldBy {g : zg_G} (h : CSh g) : zfr g aX 17 = some ax_heldBy := (h.2.1 _ (List.mem_of_getElem? (i := 8) rfl)).1
theorem cs_heldBy {g : zg_G} (h : CSh g) : zsh g ax_heldBy = some (.inr (0, 12)) := (h.2.1 _ (List.mem_of_getElem? (i := 8) rfl)).2
theorem cr_best {g : zg_G} (h : CSh g) : zfr g aX 18 = some ax_best := (h.2.1 _ (List.mem_of_getElem? (i := 9) rfl)).1
theorem cs_best {g : zg_G} (h : CSh g) : zsh g ax_best = some (.inr (0, 12)) := (h.2.1 _ (List.mem_of_getElem? (i := 9) rfl)).2
theorem cr_worlds {g : zg_G} (h : CSh g) : zfr g aX 24 = some ax_worlds := (h.2.1 _ (List.mem_of_getElem? (i := 10) rfl)).1
theorem cs_worlds {g : zg_G} (h : CSh g) : zsh g ax_worlds = some (.inr (1, 4096)) := (h.2.1 _ (List.mem_of_getElem? (i := 10) rfl)).2
theorem cr_ofFirst {g : zg_G} (h : CSh g) : zfr g aX 25 = some ax_ofFirst := (h.2.1 _ (List.mem_of_getElem? (i := 11) rfl)).1
theorem cs_ofFirst {g : zg_G} (h : CSh g) : zsh g ax_ofFirst = some (.inr (1, 52)) := (h.2.1 _ (List.mem_of_getElem? (i := 11) rfl)).2
theorem cr_ofSecond {g : zg_G} (h : CSh g) : zfr g aX 26 = some ax_ofSecond := (h.2.1 _ (List.mem_of_getElem? (i := 12) rfl)).1
theorem cs_ofSecond {g : zg_G} (h : CSh g) : zsh g ax_ofSecond = some (.inr (1, 52)) := (h.2.1 _ (List.mem_of_getElem? (i := 12) rfl)).2
theorem cr_length {g : zg_G} (h : CSh g) : zfr g aX 29 = some ax_length := (h.2.1 _ (List.mem_of_getElem? (i := 13) rfl)).1
theorem cs_length {g : zg_G} (h : CSh g) : zsh g ax_length = some (.inr (0, 256)) := (h.2.1 _ (List.mem_of_getElem? (i := 13) rfl)).2
theorem cr_s {g : zg_G} (h : CSh g) : zfr g aX xf_s = some ax_s := h.2.2.1.1
theorem cs_s {g : zg_G} (h : CSh g) : zsh g ax_s = some (.inl 3) := h.2.2.1.2.1
theorem cr_order {g : zg_G} (h : CSh g) : zfr g ax_s stf_order = some ax_order := h.2.2.1.2.2.1
theorem cs_order {g : zg_G} (h : CSh g) : zsh g ax_order = some (.inr (0, 12)) := h.2.2.1.2.2.2
theorem cr_school {g : zg_G} (h : CSh g) : zfr g aX xf_school = some ax_school := h.2.2.2.1.1
theorem cr_second {g : zg_G} (h : CSh g) : zfr g aX xf_second = some ax_second := h.2.2.2.1.2
theorem cs_sch {g : zg_G} (h : CSh g) {a : Nat} (ha : isSch a) : zsh g a = some (.inl 4) := (h.2.2.2.2 a ha).1
theorem cr_this0 {g : zg_G} (h : CSh g) {a : Nat} (ha : isSch a) : zfr g a sf_this_0 = some aX := (h.2.2.2.2 a ha).2.1
theorem cr_chairs {g : zg_G} (h : CSh g) {a : Nat} (ha : isSch a) : zfr g a 0 = some (a + 1) := ((h.2.2.2.2 a ha).2.2 _ (List.mem_of_getElem? (i := 0) rfl)).1
theorem cs_chairs {g : zg_G} (h : CSh g) {a : Nat} (ha : isSch a) : zsh g (a + 1) = some (.inr (0, 17)) := ((h.2.2.2.2 a ha).2.2 _ (List.mem_of_getElem? (i := 0) rfl)).2
theorem cr_drawn {g : zg_G} (h : CSh g) {a : Nat} (ha : isSch a) : zfr g a 1 = some (a + 2) := ((h.2.2.2.2 a ha).2.2 _ (List.mem_of_getElem? (i := 1) rfl)).1
theorem cs_drawn {g : zg_G} (h : CSh g) {a : Nat} (ha : isSch a) : zsh g (a + 2) = some (.inr (0, 17)) := ((h.2.2.2.2 a ha).2.2 _ (List.mem_of_getElem? (i := 1) rfl)).2
theorem cr_fell {g : zg_G} (h : CSh g) {a : Nat} (ha : isSch a) : zfr g a 2 = some (a + 3) := ((h.2.2.2.2 a ha).2.2 _ (List.mem_of_getElem? (i := 2) rfl)).1
theorem cs_fell {g : zg_G} (h : CSh g) {a : Nat} (ha : isSch a) : zsh g (a + 3) = some (.inr (0, 17)) := ((h.2.2.2.2 a ha).2.2 _ (List.mem_of_getElem? (i := 2) rfl)).2
theorem cr_by {g : zg_G} (h : CSh g) {a : Nat} (ha : isSch a) : zfr g a 3 = some (a + 4) := ((h.2.2.2.2 a ha).2.2 _ (List.mem_of_getElem? (i := 3) rfl)).1
theorem cs_by {g : zg_G} (h : CSh g) {a : Nat} (ha : isSch a) : zsh g (a + 4) = some (.inr (0, 17)) := ((h.2.2.2.2 a ha).2.2 _ (List.mem_of_getElem? (i := 3) rfl)).2
theorem cr_weeks {g : zg_G} (h : CSh g) {a : Nat} (ha : isSch a) : zfr g a 4 = some (a + 5) := ((h.2.2.2.2 a ha).2.2 _ (List.mem_of_getElem? (i := 4) rfl)).1
theorem cs_weeks {g : zg_G} (h : CSh g) {a : Nat} (ha : isSch a) : zsh g (a + 5) = some (.inr (0, 17)) := ((h.2.2.2.2 a ha).2.2 _ (List.mem_of_getElem? (i := 4) rfl)).2
theorem cr_hurts {g : zg_G} (h : CSh g) {a : Nat} (ha : isSch a) : zfr g a 5 = some (a + 6) := ((h.2.2.2.2 a ha).2.2 _ (List.mem_of_getElem? (i := 5) rfl)).1
theorem cs_hurts {g : zg_G} (h : CSh g) {a : Nat} (ha : isSch a) : zsh g (a + 6) = some (.inr (0, 17)) := ((h.2.2.2.2 a ha).2.2 _ (List.mem_of_getElem? (i := 5) rfl)).2
theorem cr_heldIn {g : zg_G} (h : CSh g) {a : Nat} (ha : isSch a) : zfr g a 6 = some (a + 7) := ((h.2.2.2.2 a ha).2.2 _ (List.mem_of_getElem? (i := 6) rfl)).1
theorem cs_heldIn {g : zg_G} (h : CSh g) {a : Nat} (ha : isSch a) : zsh g (a + 7) = some (.inr (0, 52)) := ((h.2.2.2.2 a ha).2.2 _ (List.mem_of_getElem? (i := 6) rfl)).2
theorem isSch.ge {a : Nat} (h : isSch a) : zK ≤ a := by rcases h with rfl | rfl <;> decide
theorem isSch.gek {a : Nat} (h : isSch a) (k : Nat) : zK ≤ a + k := Nat.le_trans h.ge (Nat.le_add_right _ _)
