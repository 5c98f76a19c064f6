/-! ===== the reference: small methods ===== -/
abbrev zm_X6_init : zY := (yX6_init, RX6, cX6_init, 1, none, [])
theorem zmM_X6_init : zM zm_X6_init 0 := ⟨by decide +kernel, rfl, by decide +kernel, by decide +kernel, by decide +kernel, by decide⟩
abbrev zm_X6_tellsNothing : zY := (yX6_tellsNothing, RX6, cX6_tellsNothing, 2, none, [])
theorem zmM_X6_tellsNothing : zM zm_X6_tellsNothing 0 := ⟨by decide +kernel, rfl, by decide +kernel, by decide +kernel, by decide +kernel, by decide⟩
abbrev zm_X6_stands : zY := (yX6_stands, RX6, cX6_stands, 3, none, [])
theorem zmM_X6_stands : zM zm_X6_stands 0 := ⟨by decide +kernel, rfl, by decide +kernel, by decide +kernel, by decide +kernel, by decide⟩
abbrev zm_X6_allOf : zY := (yX6_allOf, RX6, cX6_allOf, 1, (some (.long)), [])
theorem zmM_X6_allOf : zM zm_X6_allOf 1 := ⟨by decide +kernel, rfl, by decide +kernel, by decide +kernel, by decide +kernel, by decide⟩
abbrev zm_X6_thrown : zY := (yX6_thrown, RX6, cX6_thrown, 1, (some (.int)), [])
theorem zmM_X6_thrown : zM zm_X6_thrown 0 := ⟨by decide +kernel, rfl, by decide +kernel, by decide +kernel, by decide +kernel, by decide⟩
abbrev zm_X6_feed : zY := (yX6_feed, RX6, cX6_feed, 8, (some (.int)), [])
theorem zmM_X6_feed : zM zm_X6_feed 5 := ⟨by decide +kernel, rfl, by decide +kernel, by decide +kernel, by decide +kernel, by decide⟩
abbrev zm_X6_jar : zY := (yX6_jar, RX6, cX6_jar, 2, (some (.int)), [])
theorem zmM_X6_jar : zM zm_X6_jar 1 := ⟨by decide +kernel, rfl, by decide +kernel, by decide +kernel, by decide +kernel, by decide⟩
abbrev zm_X6_in : zY := (yX6_in, RX6, cX6_in, 3, (some (.boolean)), [])
theorem zmM_X6_in : zM zm_X6_in 3 := ⟨by decide +kernel, rfl, by decide +kernel, by decide +kernel, by decide +kernel, by decide⟩
abbrev zm_X6_bad : zY := (yX6_bad, RX6, cX6_bad, 4, (some (.boolean)), [])
theorem zmM_X6_bad : zM zm_X6_bad 3 := ⟨by decide +kernel, rfl, by decide +kernel, by decide +kernel, by decide +kernel, by decide⟩
abbrev zm_X6_starts : zY := (yX6_starts, RX6, cX6_starts, 2, none, [])
theorem zmM_X6_starts : zM zm_X6_starts 1 := ⟨by decide +kernel, rfl, by decide +kernel, by decide +kernel, by decide +kernel, by decide⟩
abbrev zm_X6_blanks : zY := (yX6_blanks, RX6, cX6_blanks, 1, none, [])
theorem zmM_X6_blanks : zM zm_X6_blanks 0 := ⟨by decide +kernel, rfl, by decide +kernel, by decide +kernel, by decide +kernel, by decide⟩
abbrev zm_X6_byteAt : zY := (yX6_byteAt, RX6, cX6_byteAt, 2, (some (.int)), [])
theorem zmM_X6_byteAt : zM zm_X6_byteAt 1 := ⟨by decide +kernel, rfl, by decide +kernel, by decide +kernel, by decide +kernel, by decide⟩
abbrev zm_X6_clause : zY := (yX6_clause, RX6, cX6_clause, 2, none, [])
theorem zmM_X6_clause : zM zm_X6_clause 0 := ⟨by decide +kernel, rfl, by decide +kernel, by decide +kernel, by decide +kernel, by decide⟩
abbrev zm_X6_kindHere : zY := (yX6_kindHere, RX6, cX6_kindHere, 1, (some (.int)), [])
theorem zmM_X6_kindHere : zM zm_X6_kindHere 0 := ⟨by decide +kernel, rfl, by decide +kernel, by decide +kernel, by decide +kernel, by decide⟩
abbrev zm_X6_isWord : zY := (yX6_isWord, RX6, cX6_isWord, 7, (some (.boolean)), [])
theorem zmM_X6_isWord : zM zm_X6_isWord 6 := ⟨by decide +kernel, rfl, by decide +kernel, by decide +kernel, by decide +kernel, by decide⟩
abbrev zm_X6_wordHere : zY := (yX6_wordHere, RX6, cX6_wordHere, 3, (some (.int)), [])
theorem zmM_X6_wordHere : zM zm_X6_wordHere 0 := ⟨by decide +kernel, rfl, by decide +kernel, by decide +kernel, by decide +kernel, by decide⟩
abbrev zm_X6_isSmall : zY := (yX6_isSmall, RX6, cX6_isSmall, 1, (some (.boolean)), [])
theorem zmM_X6_isSmall : zM zm_X6_isSmall 1 := ⟨by decide +kernel, rfl, by decide +kernel, by decide +kernel, by decide +kernel, by decide⟩
abbrev zm_X6_six : zY := (yX6_six, RX6, cX6_six, 7, (some (.int)), [])
theorem zmM_X6_six : zM zm_X6_six 6 := ⟨by decide +kernel, rfl, by decide +kernel, by decide +kernel, by decide +kernel, by decide⟩
abbrev zm_X6_wrong : zY := (yX6_wrong, RX6, cX6_wrong, 3, none, [])
theorem zmM_X6_wrong : zM zm_X6_wrong 2 := ⟨by decide +kernel, rfl, by decide +kernel, by decide +kernel, by decide +kernel, by decide⟩
abbrev zm_X6_isFull : zY := (yX6_isFull, RX6, cX6_isFull, 2, (some (.boolean)), [])
theorem zmM_X6_isFull : zM zm_X6_isFull 1 := ⟨by decide +kernel, rfl, by decide +kernel, by decide +kernel, by decide +kernel, by decide⟩
abbrev zm_X6_skipWord : zY := (yX6_skipWord, RX6, cX6_skipWord, 1, none, [])
theorem zmM_X6_skipWord : zM zm_X6_skipWord 0 := ⟨by decide +kernel, rfl, by decide +kernel, by decide +kernel, by decide +kernel, by decide⟩
abbrev zm_X6_number : zY := (yX6_number, RX6, cX6_number, 5, (some (.int)), [])
theorem zmM_X6_number : zM zm_X6_number 2 := ⟨by decide +kernel, rfl, by decide +kernel, by decide +kernel, by decide +kernel, by decide⟩
abbrev zm_X6_isDigit : zY := (yX6_isDigit, RX6, cX6_isDigit, 1, (some (.boolean)), [])
theorem zmM_X6_isDigit : zM zm_X6_isDigit 1 := ⟨by decide +kernel, rfl, by decide +kernel, by decide +kernel, by decide +kernel, by decide⟩
abbrev zm_X6_anyOf : zY := (yX6_anyOf, RX6, cX6_anyOf, 3, (some (.long)), [])
theorem zmM_X6_anyOf : zM zm_X6_anyOf 0 := ⟨by decide +kernel, rfl, by decide +kernel, by decide +kernel, by decide +kernel, by decide⟩
abbrev zm_X6_eachOf : zY := (yX6_eachOf, RX6, cX6_eachOf, 3, (some (.long)), [])
theorem zmM_X6_eachOf : zM zm_X6_eachOf 0 := ⟨by decide +kernel, rfl, by decide +kernel, by decide +kernel, by decide +kernel, by decide⟩
abbrev zm_X6_oneOf : zY := (yX6_oneOf, RX6, cX6_oneOf, 6, (some (.long)), [])
theorem zmM_X6_oneOf : zM zm_X6_oneOf 0 := ⟨by decide +kernel, rfl, by decide +kernel, by decide +kernel, by decide +kernel, by decide⟩
abbrev zm_X6_opens : zY := (yX6_opens, RX6, cX6_opens, 1, (some (.boolean)), [])
theorem zmM_X6_opens : zM zm_X6_opens 0 := ⟨by decide +kernel, rfl, by decide +kernel, by decide +kernel, by decide +kernel, by decide⟩
abbrev zm_X6_sign : zY := (yX6_sign, RX6, cX6_sign, 2, none, [])
theorem zmM_X6_sign : zM zm_X6_sign 1 := ⟨by decide +kernel, rfl, by decide +kernel, by decide +kernel, by decide +kernel, by decide⟩
abbrev zm_X6_takes : zY := (yX6_takes, RX6, cX6_takes, 8, (some (.boolean)), [])
theorem zmM_X6_takes : zM zm_X6_takes 6 := ⟨by decide +kernel, rfl, by decide +kernel, by decide +kernel, by decide +kernel, by decide⟩
abbrev zm_X6_atomOf : zY := (yX6_atomOf, RX6, cX6_atomOf, 5, (some (.long)), [])
theorem zmM_X6_atomOf : zM zm_X6_atomOf 2 := ⟨by decide +kernel, rfl, by decide +kernel, by decide +kernel, by decide +kernel, by decide⟩
abbrev zm_X6_question : zY := (yX6_question, RX6, cX6_question, 4, (some (.int)), [])
theorem zmM_X6_question : zM zm_X6_question 1 := ⟨by decide +kernel, rfl, by decide +kernel, by decide +kernel, by decide +kernel, by decide⟩
abbrev zm_X6_ones : zY := (yX6_ones, RX6, cX6_ones, 4, (some (.int)), [])
theorem zmM_X6_ones : zM zm_X6_ones 1 := ⟨by decide +kernel, rfl, by decide +kernel, by decide +kernel, by decide +kernel, by decide⟩
abbrev zm_X6_tongue : zY := (yX6_tongue, RX6, cX6_tongue, 4, (some (.int)), [])
theorem zmM_X6_tongue : zM zm_X6_tongue 1 := ⟨by decide +kernel, rfl, by decide +kernel, by decide +kernel, by decide +kernel, by decide⟩
abbrev zm_X6_whoHere : zY := (yX6_whoHere, RX6, cX6_whoHere, 2, none, [])
theorem zmM_X6_whoHere : zM zm_X6_whoHere 0 := ⟨by decide +kernel, rfl, by decide +kernel, by decide +kernel, by decide +kernel, by decide⟩
abbrev zm_X6_tongueAny : zY := (yX6_tongueAny, RX6, cX6_tongueAny, 1, none, [])
theorem zmM_X6_tongueAny : zM zm_X6_tongueAny 0 := ⟨by decide +kernel, rfl, by decide +kernel, by decide +kernel, by decide +kernel, by decide⟩
abbrev zm_X6_tongueEach : zY := (yX6_tongueEach, RX6, cX6_tongueEach, 1, none, [])
theorem zmM_X6_tongueEach : zM zm_X6_tongueEach 0 := ⟨by decide +kernel, rfl, by decide +kernel, by decide +kernel, by decide +kernel, by decide⟩
abbrev zm_X6_tongueOne : zY := (yX6_tongueOne, RX6, cX6_tongueOne, 2, none, [])
theorem zmM_X6_tongueOne : zM zm_X6_tongueOne 0 := ⟨by decide +kernel, rfl, by decide +kernel, by decide +kernel, by decide +kernel, by decide⟩
abbrev zm_X6_says : zY := (yX6_says, RX6, cX6_says, 3, none, [])
theorem zmM_X6_says : zM zm_X6_says 2 := ⟨by decide +kernel, rfl, by decide +kernel, by decide +kernel, by decide +kernel, by decide⟩
abbrev zm_X6_sum : zY := (yX6_sum, RX6, cX6_sum, 2, none, [])
theorem zmM_X6_sum : zM zm_X6_sum 0 := ⟨by decide +kernel, rfl, by decide +kernel, by decide +kernel, by decide +kernel, by decide⟩
abbrev zm_X6_product : zY := (yX6_product, RX6, cX6_product, 1, none, [])
theorem zmM_X6_product : zM zm_X6_product 0 := ⟨by decide +kernel, rfl, by decide +kernel, by decide +kernel, by decide +kernel, by decide⟩
abbrev zm_X6_oneValue : zY := (yX6_oneValue, RX6, cX6_oneValue, 2, none, [])
theorem zmM_X6_oneValue : zM zm_X6_oneValue 0 := ⟨by decide +kernel, rfl, by decide +kernel, by decide +kernel, by decide +kernel, by decide⟩
abbrev zm_X6_knownHere : zY := (yX6_knownHere, RX6, cX6_knownHere, 1, (some (.int)), [])
theorem zmM_X6_knownHere : zM zm_X6_knownHere 0 := ⟨by decide +kernel, rfl, by decide +kernel, by decide +kernel, by decide +kernel, by decide⟩
abbrev zm_X6_takesSign : zY := (yX6_takesSign, RX6, cX6_takesSign, 3, (some (.boolean)), [])
theorem zmM_X6_takesSign : zM zm_X6_takesSign 1 := ⟨by decide +kernel, rfl, by decide +kernel, by decide +kernel, by decide +kernel, by decide⟩
abbrev zm_X6_fault : zY := (yX6_fault, RX6, cX6_fault, 1, (some (.int)), [])
theorem zmM_X6_fault : zM zm_X6_fault 0 := ⟨by decide +kernel, rfl, by decide +kernel, by decide +kernel, by decide +kernel, by decide⟩
abbrev zm_X6_told : zY := (yX6_told, RX6, cX6_told, 2, (some (.int)), [])
theorem zmM_X6_told : zM zm_X6_told 1 := ⟨by decide +kernel, rfl, by decide +kernel, by decide +kernel, by decide +kernel, by decide⟩
abbrev zm_X6_models : zY := (yX6_models, RX6, cX6_models, 2, (some (.long)), [])
theorem zmM_X6_models : zM zm_X6_models 1 := ⟨by decide +kernel, rfl, by decide +kernel, by decide +kernel, by decide +kernel, by decide⟩
abbrev zm_X6_isSlip : zY := (yX6_isSlip, RX6, cX6_isSlip, 2, (some (.boolean)), [])
theorem zmM_X6_isSlip : zM zm_X6_isSlip 1 := ⟨by decide +kernel, rfl, by decide +kernel, by decide +kernel, by decide +kernel, by decide⟩
abbrev zm_X6_seen : zY := (yX6_seen, RX6, cX6_seen, 2, (some (.long)), [])
theorem zmM_X6_seen : zM zm_X6_seen 1 := ⟨by decide +kernel, rfl, by decide +kernel, by decide +kernel, by decide +kernel, by decide⟩
abbrev zm_X6_left : zY := (yX6_left, RX6, cX6_left, 2, (some (.long)), [])
theorem zmM_X6_left : zM zm_X6_left 1 := ⟨by decide +kernel, rfl, by decide +kernel, by decide +kernel, by decide +kernel, by decide⟩
abbrev zm_X6_isWeek : zY := (yX6_isWeek, RX6, cX6_isWeek, 1, (some (.boolean)), [])
theorem zmM_X6_isWeek : zM zm_X6_isWeek 1 := ⟨by decide +kernel, rfl, by decide +kernel, by decide +kernel, by decide +kernel, by decide⟩
abbrev zm_X6_kin : zY := (yX6_kin, RX6, cX6_kin, 5, (some (.int)), [])
theorem zmM_X6_kin : zM zm_X6_kin 2 := ⟨by decide +kernel, rfl, by decide +kernel, by decide +kernel, by decide +kernel, by decide⟩
abbrev zm_X6_fallOut : zY := (yX6_fallOut, RX6, cX6_fallOut, 4, (some (.boolean)), [])
theorem zmM_X6_fallOut : zM zm_X6_fallOut 3 := ⟨by decide +kernel, rfl, by decide +kernel, by decide +kernel, by decide +kernel, by decide⟩
abbrev zm_X6_falls : zY := (yX6_falls, RX6, cX6_falls, 4, (some (.boolean)), [])
theorem zmM_X6_falls : zM zm_X6_falls 3 := ⟨by decide +kernel, rfl, by decide +kernel, by decide +kernel, by decide +kernel, by decide⟩
abbrev zm_X6_truths : zY := (yX6_truths, RX6, cX6_truths, 1, (some (.int)), [])
theorem zmM_X6_truths : zM zm_X6_truths 0 := ⟨by decide +kernel, rfl, by decide +kernel, by decide +kernel, by decide +kernel, by decide⟩
abbrev zm_X6_truthsNow : zY := (yX6_truthsNow, RX6, cX6_truthsNow, 3, (some (.int)), [])
theorem zmM_X6_truthsNow : zM zm_X6_truthsNow 0 := ⟨by decide +kernel, rfl, by decide +kernel, by decide +kernel, by decide +kernel, by decide⟩
abbrev zm_X6_isTrue : zY := (yX6_isTrue, RX6, cX6_isTrue, 2, (some (.boolean)), [])
theorem zmM_X6_isTrue : zM zm_X6_isTrue 1 := ⟨by decide +kernel, rfl, by decide +kernel, by decide +kernel, by decide +kernel, by decide⟩
abbrev zm_X6_dull : zY := (yX6_dull, RX6, cX6_dull, 3, (some (.int)), [])
theorem zmM_X6_dull : zM zm_X6_dull 0 := ⟨by decide +kernel, rfl, by decide +kernel, by decide +kernel, by decide +kernel, by decide⟩
abbrev zm_X6_order : zY := (yX6_order, RX6, cX6_order, 7, (some (.int)), [])
theorem zmM_X6_order : zM zm_X6_order 1 := ⟨by decide +kernel, rfl, by decide +kernel, by decide +kernel, by decide +kernel, by decide⟩
abbrev zm_X6_at : zY := (yX6_at, RX6, cX6_at, 2, (some (.int)), [])
theorem zmM_X6_at : zM zm_X6_at 1 := ⟨by decide +kernel, rfl, by decide +kernel, by decide +kernel, by decide +kernel, by decide⟩
abbrev zm_X6_law : zY := (yX6_law, RX6, cX6_law, 3, (some (.int)), [])
theorem zmM_X6_law : zM zm_X6_law 1 := ⟨by decide +kernel, rfl, by decide +kernel, by decide +kernel, by decide +kernel, by decide⟩
abbrev zm_X6_world : zY := (yX6_world, RX6, cX6_world, 3, (some (.int)), [])
theorem zmM_X6_world : zM zm_X6_world 1 := ⟨by decide +kernel, rfl, by decide +kernel, by decide +kernel, by decide +kernel, by decide⟩
abbrev zm_X6_held : zY := (yX6_held, RX6, cX6_held, 2, (some (.int)), [])
theorem zmM_X6_held : zM zm_X6_held 1 := ⟨by decide +kernel, rfl, by decide +kernel, by decide +kernel, by decide +kernel, by decide⟩
abbrev zm_X6_goesNow : zY := (yX6_goesNow, RX6, cX6_goesNow, 1, (some (.int)), [])
theorem zmM_X6_goesNow : zM zm_X6_goesNow 0 := ⟨by decide +kernel, rfl, by decide +kernel, by decide +kernel, by decide +kernel, by decide⟩
abbrev zm_X6_rowAsOrder : zY := (yX6_rowAsOrder, RX6, cX6_rowAsOrder, 2, none, [])
theorem zmM_X6_rowAsOrder : zM zm_X6_rowAsOrder 0 := ⟨by decide +kernel, rfl, by decide +kernel, by decide +kernel, by decide +kernel, by decide⟩
abbrev zm_X6_goes : zY := (yX6_goes, RX6, cX6_goes, 3, (some (.int)), [])
theorem zmM_X6_goes : zM zm_X6_goes 1 := ⟨by decide +kernel, rfl, by decide +kernel, by decide +kernel, by decide +kernel, by decide⟩
abbrev zm_X6_begins : zY := (yX6_begins, RX6, cX6_begins, 3, none, [])
theorem zmM_X6_begins : zM zm_X6_begins 1 := ⟨by decide +kernel, rfl, by decide +kernel, by decide +kernel, by decide +kernel, by decide⟩
abbrev zm_X6_kills : zY := (yX6_kills, RX6, cX6_kills, 4, none, [])
theorem zmM_X6_kills : zM zm_X6_kills 1 := ⟨by decide +kernel, rfl, by decide +kernel, by decide +kernel, by decide +kernel, by decide⟩
abbrev zm_X6_isDead : zY := (yX6_isDead, RX6, cX6_isDead, 3, (some (.boolean)), [])
theorem zmM_X6_isDead : zM zm_X6_isDead 2 := ⟨by decide +kernel, rfl, by decide +kernel, by decide +kernel, by decide +kernel, by decide⟩
abbrev zm_X6_leaves : zY := (yX6_leaves, RX6, cX6_leaves, 3, none, [])
theorem zmM_X6_leaves : zM zm_X6_leaves 1 := ⟨by decide +kernel, rfl, by decide +kernel, by decide +kernel, by decide +kernel, by decide⟩
abbrev zm_X6_draws : zY := (yX6_draws, RX6, cX6_draws, 6, none, [])
theorem zmM_X6_draws : zM zm_X6_draws 2 := ⟨by decide +kernel, rfl, by decide +kernel, by decide +kernel, by decide +kernel, by decide⟩
abbrev zm_X6_whoFalls : zY := (yX6_whoFalls, RX6, cX6_whoFalls, 4, (some (.int)), [])
theorem zmM_X6_whoFalls : zM zm_X6_whoFalls 3 := ⟨by decide +kernel, rfl, by decide +kernel, by decide +kernel, by decide +kernel, by decide⟩
abbrev zm_X6_byTongue : zY := (yX6_byTongue, RX6, cX6_byTongue, 8, (some (.int)), [])
theorem zmM_X6_byTongue : zM zm_X6_byTongue 6 := ⟨by decide +kernel, rfl, by decide +kernel, by decide +kernel, by decide +kernel, by decide⟩
abbrev zm_X6_isSo : zY := (yX6_isSo, RX6, cX6_isSo, 6, (some (.boolean)), [])
theorem zmM_X6_isSo : zM zm_X6_isSo 2 := ⟨by decide +kernel, rfl, by decide +kernel, by decide +kernel, by decide +kernel, by decide⟩
abbrev zm_X6_valueOf : zY := (yX6_valueOf, RX6, cX6_valueOf, 2, (some (.int)), [])
theorem zmM_X6_valueOf : zM zm_X6_valueOf 1 := ⟨by decide +kernel, rfl, by decide +kernel, by decide +kernel, by decide +kernel, by decide⟩
abbrev zm_X6_by : zY := (yX6_by, RX6, cX6_by, 3, (some (.int)), [])
theorem zmM_X6_by : zM zm_X6_by 3 := ⟨by decide +kernel, rfl, by decide +kernel, by decide +kernel, by decide +kernel, by decide⟩
abbrev zm_X6_drops : zY := (yX6_drops, RX6, cX6_drops, 4, none, [])
theorem zmM_X6_drops : zM zm_X6_drops 3 := ⟨by decide +kernel, rfl, by decide +kernel, by decide +kernel, by decide +kernel, by decide⟩
abbrev zm_X6_ages : zY := (yX6_ages, RX6, cX6_ages, 3, none, [])
theorem zmM_X6_ages : zM zm_X6_ages 0 := ⟨by decide +kernel, rfl, by decide +kernel, by decide +kernel, by decide +kernel, by decide⟩
abbrev zm_X6_heldNow : zY := (yX6_heldNow, RX6, cX6_heldNow, 3, (some (.int)), [])
theorem zmM_X6_heldNow : zM zm_X6_heldNow 0 := ⟨by decide +kernel, rfl, by decide +kernel, by decide +kernel, by decide +kernel, by decide⟩
abbrev zm_X6_eldest : zY := (yX6_eldest, RX6, cX6_eldest, 2, (some (.int)), [])
theorem zmM_X6_eldest : zM zm_X6_eldest 1 := ⟨by decide +kernel, rfl, by decide +kernel, by decide +kernel, by decide +kernel, by decide⟩
abbrev zm_X6_fate : zY := (yX6_fate, RX6, cX6_fate, 3, (some (.int)), [])
theorem zmM_X6_fate : zM zm_X6_fate 2 := ⟨by decide +kernel, rfl, by decide +kernel, by decide +kernel, by decide +kernel, by decide⟩
abbrev zm_X6_year : zY := (yX6_year, RX6, cX6_year, 3, (some (.int)), [])
theorem zmM_X6_year : zM zm_X6_year 1 := ⟨by decide +kernel, rfl, by decide +kernel, by decide +kernel, by decide +kernel, by decide⟩
abbrev zm_X6_togetherIn : zY := (yX6_togetherIn, RX6, cX6_togetherIn, 6, (some (.long)), [])
theorem zmM_X6_togetherIn : zM zm_X6_togetherIn 2 := ⟨by decide +kernel, rfl, by decide +kernel, by decide +kernel, by decide +kernel, by decide⟩
abbrev zm_X6_touchy : zY := (yX6_touchy, RX6, cX6_touchy, 4, (some (.int)), [])
theorem zmM_X6_touchy : zM zm_X6_touchy 0 := ⟨by decide +kernel, rfl, by decide +kernel, by decide +kernel, by decide +kernel, by decide⟩
abbrev zm_X6_changes : zY := (yX6_changes, RX6, cX6_changes, 4, none, [])
theorem zmM_X6_changes : zM zm_X6_changes 2 := ⟨by decide +kernel, rfl, by decide +kernel, by decide +kernel, by decide +kernel, by decide⟩
abbrev zm_X6_swap : zY := (yX6_swap, RX6, cX6_swap, 6, (some (.int)), [])
theorem zmM_X6_swap : zM zm_X6_swap 0 := ⟨by decide +kernel, rfl, by decide +kernel, by decide +kernel, by decide +kernel, by decide⟩
abbrev zm_X6_humble : zY := (yX6_humble, RX6, cX6_humble, 4, (some (.int)), [])
theorem zmM_X6_humble : zM zm_X6_humble 0 := ⟨by decide +kernel, rfl, by decide +kernel, by decide +kernel, by decide +kernel, by decide⟩
abbrev zm_X6_killer : zY := (yX6_killer, RX6, cX6_killer, 5, (some (.int)), [])
theorem zmM_X6_killer : zM zm_X6_killer 1 := ⟨by decide +kernel, rfl, by decide +kernel, by decide +kernel, by decide +kernel, by decide⟩
abbrev zm_X6_grave : zY := (yX6_grave, RX6, cX6_grave, 5, (some (.int)), [])
theorem zmM_X6_grave : zM zm_X6_grave 1 := ⟨by decide +kernel, rfl, by decide +kernel, by decide +kernel, by decide +kernel, by decide⟩
abbrev zm_X6_canon : zY := (yX6_canon, RX6, cX6_canon, 5, (some (.int)), [])
theorem zmM_X6_canon : zM zm_X6_canon 1 := ⟨by decide +kernel, rfl, by decide +kernel, by decide +kernel, by decide +kernel, by decide⟩
abbrev zm_X6_ends : zY := (yX6_ends, RX6, cX6_ends, 2, (some (.int)), [])
theorem zmM_X6_ends : zM zm_X6_ends 1 := ⟨by decide +kernel, rfl, by decide +kernel, by decide +kernel, by decide +kernel, by decide⟩
abbrev zm_X6_allOrders : zY := (yX6_allOrders, RX6, cX6_allOrders, 3, none, [])
theorem zmM_X6_allOrders : zM zm_X6_allOrders 1 := ⟨by decide +kernel, rfl, by decide +kernel, by decide +kernel, by decide +kernel, by decide⟩
abbrev zm_X6_permutes : zY := (yX6_permutes, RX6, cX6_permutes, 7, none, [])
theorem zmM_X6_permutes : zM zm_X6_permutes 3 := ⟨by decide +kernel, rfl, by decide +kernel, by decide +kernel, by decide +kernel, by decide⟩
abbrev zm_X6_orders : zY := (yX6_orders, RX6, cX6_orders, 2, (some (.int)), [])
theorem zmM_X6_orders : zM zm_X6_orders 1 := ⟨by decide +kernel, rfl, by decide +kernel, by decide +kernel, by decide +kernel, by decide⟩
abbrev zm_X6_best : zY := (yX6_best, RX6, cX6_best, 2, (some (.int)), [])
theorem zmM_X6_best : zM zm_X6_best 0 := ⟨by decide +kernel, rfl, by decide +kernel, by decide +kernel, by decide +kernel, by decide⟩
abbrev zm_X6_compared : zY := (yX6_compared, RX6, cX6_compared, 2, (some (.int)), [])
theorem zmM_X6_compared : zM zm_X6_compared 1 := ⟨by decide +kernel, rfl, by decide +kernel, by decide +kernel, by decide +kernel, by decide⟩
abbrev zm_X6_worst : zY := (yX6_worst, RX6, cX6_worst, 5, (some (.long)), [])
theorem zmM_X6_worst : zM zm_X6_worst 1 := ⟨by decide +kernel, rfl, by decide +kernel, by decide +kernel, by decide +kernel, by decide⟩
abbrev zm_X6_drawn : zY := (yX6_drawn, RX6, cX6_drawn, 6, (some (.int)), [])
theorem zmM_X6_drawn : zM zm_X6_drawn 3 := ⟨by decide +kernel, rfl, by decide +kernel, by decide +kernel, by decide +kernel, by decide⟩
abbrev zm_X6_rowBy : zY := (yX6_rowBy, RX6, cX6_rowBy, 6, none, [])
theorem zmM_X6_rowBy : zM zm_X6_rowBy 1 := ⟨by decide +kernel, rfl, by decide +kernel, by decide +kernel, by decide +kernel, by decide⟩
abbrev zm_X6_draw : zY := (yX6_draw, RX6, cX6_draw, 3, (some (.int)), [])
theorem zmM_X6_draw : zM zm_X6_draw 2 := ⟨by decide +kernel, rfl, by decide +kernel, by decide +kernel, by decide +kernel, by decide⟩
abbrev zm_X6_century : zY := (yX6_century, RX6, cX6_century, 6, (some (.int)), [])
theorem zmM_X6_century : zM zm_X6_century 3 := ⟨by decide +kernel, rfl, by decide +kernel, by decide +kernel, by decide +kernel, by decide⟩
abbrev zm_X6_fits : zY := (yX6_fits, RX6, cX6_fits, 3, (some (.boolean)), [])
theorem zmM_X6_fits : zM zm_X6_fits 2 := ⟨by decide +kernel, rfl, by decide +kernel, by decide +kernel, by decide +kernel, by decide⟩
abbrev zm_X6_badSet : zY := (yX6_badSet, RX6, cX6_badSet, 3, (some (.boolean)), [])
theorem zmM_X6_badSet : zM zm_X6_badSet 2 := ⟨by decide +kernel, rfl, by decide +kernel, by decide +kernel, by decide +kernel, by decide⟩
abbrev zm_X6_areSlips : zY := (yX6_areSlips, RX6, cX6_areSlips, 2, (some (.boolean)), [])
theorem zmM_X6_areSlips : zM zm_X6_areSlips 1 := ⟨by decide +kernel, rfl, by decide +kernel, by decide +kernel, by decide +kernel, by decide⟩
abbrev zm_X6_together : zY := (yX6_together, RX6, cX6_together, 3, (some (.long)), [])
theorem zmM_X6_together : zM zm_X6_together 2 := ⟨by decide +kernel, rfl, by decide +kernel, by decide +kernel, by decide +kernel, by decide⟩
abbrev zm_X6_following : zY := (yX6_following, RX6, cX6_following, 3, (some (.int)), [])
theorem zmM_X6_following : zM zm_X6_following 2 := ⟨by decide +kernel, rfl, by decide +kernel, by decide +kernel, by decide +kernel, by decide⟩
abbrev zm_X6_followingOf : zY := (yX6_followingOf, RX6, cX6_followingOf, 5, (some (.int)), [])
theorem zmM_X6_followingOf : zM zm_X6_followingOf 1 := ⟨by decide +kernel, rfl, by decide +kernel, by decide +kernel, by decide +kernel, by decide⟩
abbrev zm_X6_sets : zY := (yX6_sets, RX6, cX6_sets, 9, (some (.int)), [])
theorem zmM_X6_sets : zM zm_X6_sets 2 := ⟨by decide +kernel, rfl, by decide +kernel, by decide +kernel, by decide +kernel, by decide⟩
abbrev zm_X6_isWhole : zY := (yX6_isWhole, RX6, cX6_isWhole, 4, (some (.boolean)), [])
theorem zmM_X6_isWhole : zM zm_X6_isWhole 2 := ⟨by decide +kernel, rfl, by decide +kernel, by decide +kernel, by decide +kernel, by decide⟩
abbrev zm_X6_whole : zY := (yX6_whole, RX6, cX6_whole, 5, (some (.int)), [])
theorem zmM_X6_whole : zM zm_X6_whole 2 := ⟨by decide +kernel, rfl, by decide +kernel, by decide +kernel, by decide +kernel, by decide⟩
abbrev zm_X6_proof : zY := (yX6_proof, RX6, cX6_proof, 6, (some (.int)), [])
theorem zmM_X6_proof : zM zm_X6_proof 1 := ⟨by decide +kernel, rfl, by decide +kernel, by decide +kernel, by decide +kernel, by decide⟩
abbrev zm_X6_split : zY := (yX6_split, RX6, cX6_split, 9, (some (.int)), [])
theorem zmM_X6_split : zM zm_X6_split 2 := ⟨by decide +kernel, rfl, by decide +kernel, by decide +kernel, by decide +kernel, by decide⟩
abbrev zm_X6_likely : zY := (yX6_likely, RX6, cX6_likely, 7, (some (.int)), [])
theorem zmM_X6_likely : zM zm_X6_likely 1 := ⟨by decide +kernel, rfl, by decide +kernel, by decide +kernel, by decide +kernel, by decide⟩
abbrev zm_X6_known : zY := (yX6_known, RX6, cX6_known, 5, (some (.int)), [])
theorem zmM_X6_known : zM zm_X6_known 2 := ⟨by decide +kernel, rfl, by decide +kernel, by decide +kernel, by decide +kernel, by decide⟩
abbrev zm_X6_asks : zY := (yX6_asks, RX6, cX6_asks, 9, (some (.int)), [])
theorem zmM_X6_asks : zM zm_X6_asks 1 := ⟨by decide +kernel, rfl, by decide +kernel, by decide +kernel, by decide +kernel, by decide⟩
abbrev zm_X6_quarrels : zY := (yX6_quarrels, RX6, cX6_quarrels, 5, (some (.int)), [])
theorem zmM_X6_quarrels : zM zm_X6_quarrels 1 := ⟨by decide +kernel, rfl, by decide +kernel, by decide +kernel, by decide +kernel, by decide⟩
abbrev zm_X6_peace : zY := (yX6_peace, RX6, cX6_peace, 7, (some (.int)), [])
theorem zmM_X6_peace : zM zm_X6_peace 1 := ⟨by decide +kernel, rfl, by decide +kernel, by decide +kernel, by decide +kernel, by decide⟩
abbrev zm_X6_salted : zY := (yX6_salted, RX6, cX6_salted, 4, (some (.int)), [])
theorem zmM_X6_salted : zM zm_X6_salted 1 := ⟨by decide +kernel, rfl, by decide +kernel, by decide +kernel, by decide +kernel, by decide⟩
abbrev zm_X6_goesSalted : zY := (yX6_goesSalted, RX6, cX6_goesSalted, 3, (some (.int)), [])
theorem zmM_X6_goesSalted : zM zm_X6_goesSalted 1 := ⟨by decide +kernel, rfl, by decide +kernel, by decide +kernel, by decide +kernel, by decide⟩
abbrev zm_X6_salty : zY := (yX6_salty, RX6, cX6_salty, 2, (some (.int)), [])
theorem zmM_X6_salty : zM zm_X6_salty 1 := ⟨by decide +kernel, rfl, by decide +kernel, by decide +kernel, by decide +kernel, by decide⟩
abbrev zm_X6_school : zY := (yX6_school, RX6, cX6_school, 3, (some (.int)), [])
theorem zmM_X6_school : zM zm_X6_school 2 := ⟨by decide +kernel, rfl, by decide +kernel, by decide +kernel, by decide +kernel, by decide⟩
abbrev zm_X6_isSchool : zY := (yX6_isSchool, RX6, cX6_isSchool, 1, (some (.boolean)), [])
theorem zmM_X6_isSchool : zM zm_X6_isSchool 1 := ⟨by decide +kernel, rfl, by decide +kernel, by decide +kernel, by decide +kernel, by decide⟩
abbrev zm_X6_schools : zY := (yX6_schools, RX6, cX6_schools, 3, none, [])
theorem zmM_X6_schools : zM zm_X6_schools 0 := ⟨by decide +kernel, rfl, by decide +kernel, by decide +kernel, by decide +kernel, by decide⟩
abbrev zm_X6_right : zY := (yX6_right, RX6, cX6_right, 3, (some (.int)), [])
theorem zmM_X6_right : zM zm_X6_right 1 := ⟨by decide +kernel, rfl, by decide +kernel, by decide +kernel, by decide +kernel, by decide⟩
abbrev zm_X6_war : zY := (yX6_war, RX6, cX6_war, 5, (some (.int)), [])
theorem zmM_X6_war : zM zm_X6_war 1 := ⟨by decide +kernel, rfl, by decide +kernel, by decide +kernel, by decide +kernel, by decide⟩
abbrev zm_X6_plain : zY := (yX6_plain, RX6, cX6_plain, 2, (some (.int)), [])
theorem zmM_X6_plain : zM zm_X6_plain 1 := ⟨by decide +kernel, rfl, by decide +kernel, by decide +kernel, by decide +kernel, by decide⟩
abbrev zm_X6_laysPlain : zY := (yX6_laysPlain, RX6, cX6_laysPlain, 5, none, [])
theorem zmM_X6_laysPlain : zM zm_X6_laysPlain 0 := ⟨by decide +kernel, rfl, by decide +kernel, by decide +kernel, by decide +kernel, by decide⟩
abbrev zm_X6_isLong : zY := (yX6_isLong, RX6, cX6_isLong, 3, none, [])
theorem zmM_X6_isLong : zM zm_X6_isLong 2 := ⟨by decide +kernel, rfl, by decide +kernel, by decide +kernel, by decide +kernel, by decide⟩
abbrev zm_X6_judge : zY := (yX6_judge, RX6, cX6_judge, 5, (some (.int)), [])
theorem zmM_X6_judge : zM zm_X6_judge 4 := ⟨by decide +kernel, rfl, by decide +kernel, by decide +kernel, by decide +kernel, by decide⟩
abbrev zm_X6_image : zY := (yX6_image, RX6, cX6_image, 1, (some (.int)), [])
theorem zmM_X6_image : zM zm_X6_image 0 := ⟨by decide +kernel, rfl, by decide +kernel, by decide +kernel, by decide +kernel, by decide⟩
abbrev zm_X6_movesAll : zY := (yX6_movesAll, RX6, cX6_movesAll, 4, none, [])
theorem zmM_X6_movesAll : zM zm_X6_movesAll 2 := ⟨by decide +kernel, rfl, by decide +kernel, by decide +kernel, by decide +kernel, by decide⟩
abbrev zm_X6_moves : zY := (yX6_moves, RX6, cX6_moves, 4, (some (.int)), [])
theorem zmM_X6_moves : zM zm_X6_moves 3 := ⟨by decide +kernel, rfl, by decide +kernel, by decide +kernel, by decide +kernel, by decide⟩
abbrev zm_X6_restore : zY := (yX6_restore, RX6, cX6_restore, 1, (some (.int)), [])
theorem zmM_X6_restore : zM zm_X6_restore 0 := ⟨by decide +kernel, rfl, by decide +kernel, by decide +kernel, by decide +kernel, by decide⟩
abbrev zm_X6_status : zY := (yX6_status, RX6, cX6_status, 2, (some (.int)), [])
theorem zmM_X6_status : zM zm_X6_status 1 := ⟨by decide +kernel, rfl, by decide +kernel, by decide +kernel, by decide +kernel, by decide⟩
abbrev zm_X6_count : zY := (yX6_count, RX6, cX6_count, 2, (some (.int)), [])
theorem zmM_X6_count : zM zm_X6_count 1 := ⟨by decide +kernel, rfl, by decide +kernel, by decide +kernel, by decide +kernel, by decide⟩
set_option maxHeartbeats 4000000 in
theorem t_in (v a b : Int32) (g : zg_G) (n : zg_N) : PW zm_X6_in 1 (zE (some (.int (zb (a ≤ v ∧ v ≤ b)))) g n) 0 0 0 [(0, .int v), (1, .int a), (2, .int b)] [] g n := by
  refine pw_iload_n dX6_in_0 0 rfl rfl ?_
  refine pw_iload_n dX6_in_1 1 rfl rfl ?_
  refine pw_icmp_lt 14 dX6_in_2 (by decide) (fun c_2 => ?_) (fun c_2 => ?_)
  · refine pw_iconst (v := 0) dX6_in_14 (by decide) ?_
    refine pw_zret _ rfl rfl dX6_in_15 ?_
    exact ⟨by rw [zb_f (by rintro ⟨h, -⟩; exact absurd h (by rw [Int32.not_le]; exact c_2))], rfl, rfl⟩
  · refine pw_iload_n dX6_in_5 0 rfl rfl ?_
    refine pw_iload_n dX6_in_6 2 rfl rfl ?_
    refine pw_icmp_gt 14 dX6_in_7 (by decide) (fun c_7 => ?_) (fun c_7 => ?_)
    · refine pw_iconst (v := 0) dX6_in_14 (by decide) ?_
      refine pw_zret _ rfl rfl dX6_in_15 ?_
      exact ⟨by rw [zb_f (by rintro ⟨-, h⟩; exact absurd h (by rw [Int32.not_le]; exact c_7))], rfl, rfl⟩
    · refine pw_iconst (v := 1) dX6_in_10 (by decide) ?_
      refine pw_goto 15 dX6_in_11 (by decide) ?_
      refine pw_zret _ rfl rfl dX6_in_15 ?_
      exact ⟨by rw [zb_t ⟨Int32.not_lt.mp c_2, Int32.not_lt.mp c_7⟩], rfl, rfl⟩
theorem t_isDigit (v : Int32) (g : zg_G) (n : zg_N) : PW zm_X6_isDigit 1 (zE (some (.int (zb (48 ≤ v ∧ v ≤ 57)))) g n) 0 0 0 [(0, .int v)] [] g n := by
  refine pw_iload_n dX6_isDigit_0 0 rfl rfl ?_
  refine pw_bipush (v := 48) dX6_isDigit_1 (by decide) ?_
  refine pw_icmp_lt 16 dX6_isDigit_3 (by decide) (fun c_3 => ?_) (fun c_3 => ?_)
  · refine pw_iconst (v := 0) dX6_isDigit_16 (by decide) ?_
    refine pw_zret _ rfl rfl dX6_isDigit_17 ?_
    exact ⟨by rw [zb_f (by rintro ⟨h, -⟩; exact absurd h (by rw [Int32.not_le]; exact c_3))], rfl, rfl⟩
  · refine pw_iload_n dX6_isDigit_6 0 rfl rfl ?_
    refine pw_bipush (v := 57) dX6_isDigit_7 (by decide) ?_
    refine pw_icmp_gt 16 dX6_isDigit_9 (by decide) (fun c_9 => ?_) (fun c_9 => ?_)
    · refine pw_iconst (v := 0) dX6_isDigit_16 (by decide) ?_
      refine pw_zret _ rfl rfl dX6_isDigit_17 ?_
      exact ⟨by rw [zb_f (by rintro ⟨-, h⟩; exact absurd h (by rw [Int32.not_le]; exact c_9))], rfl, rfl⟩
    · refine pw_iconst (v := 1) dX6_isDigit_12 (by decide) ?_
      refine pw_goto 17 dX6_isDigit_13 (by decide) ?_
      refine pw_zret _ rfl rfl dX6_isDigit_17 ?_
      exact ⟨by rw [zb_t ⟨Int32.not_lt.mp c_3, Int32.not_lt.mp c_9⟩], rfl, rfl⟩
theorem t_isSmall (v : Int32) (g : zg_G) (n : zg_N) : PW zm_X6_isSmall 1 (zE (some (.int (zb (97 ≤ v ∧ v ≤ 122)))) g n) 0 0 0 [(0, .int v)] [] g n := by
  refine pw_iload_n dX6_isSmall_0 0 rfl rfl ?_
  refine pw_bipush (v := 97) dX6_isSmall_1 (by decide) ?_
  refine pw_icmp_lt 16 dX6_isSmall_3 (by decide) (fun c_3 => ?_) (fun c_3 => ?_)
  · refine pw_iconst (v := 0) dX6_isSmall_16 (by decide) ?_
    refine pw_zret _ rfl rfl dX6_isSmall_17 ?_
    exact ⟨by rw [zb_f (by rintro ⟨h, -⟩; exact absurd h (by rw [Int32.not_le]; exact c_3))], rfl, rfl⟩
  · refine pw_iload_n dX6_isSmall_6 0 rfl rfl ?_
    refine pw_bipush (v := 122) dX6_isSmall_7 (by decide) ?_
    refine pw_icmp_gt 16 dX6_isSmall_9 (by decide) (fun c_9 => ?_) (fun c_9 => ?_)
    · refine pw_iconst (v := 0) dX6_isSmall_16 (by decide) ?_
      refine pw_zret _ rfl rfl dX6_isSmall_17 ?_
      exact ⟨by rw [zb_f (by rintro ⟨-, h⟩; exact absurd h (by rw [Int32.not_le]; exact c_9))], rfl, rfl⟩
    · refine pw_iconst (v := 1) dX6_isSmall_12 (by decide) ?_
      refine pw_goto 17 dX6_isSmall_13 (by decide) ?_
      refine pw_zret _ rfl rfl dX6_isSmall_17 ?_
      exact ⟨by rw [zb_t ⟨Int32.not_lt.mp c_3, Int32.not_lt.mp c_9⟩], rfl, rfl⟩
theorem t_thrown (g : zg_G) (n : zg_N) (hM : TSh g) : PW zm_X6_thrown 1 (zE (some (.int (zfi n aT tf_thrown))) g n) 0 0 0 [(0, .ref aT)] [] g n := by
  refine pw_aload_n dX6_thrown_0 0 rfl rfl ?_
  refine pw_geti 0 zc_X6 (ts_this hM) (by decide) q1986 (Or.inl rfl) dX6_thrown_1 ?_
  refine pw_iret rfl dX6_thrown_4 ?_
  exact ⟨rfl, rfl, rfl⟩
theorem t_ones (x : Int64) (g : zg_G) (n : zg_N) : PW zm_X6_ones 1 (zE (some (.int (nI (lc x)))) g n) 0 0 0 [(0, .long x)] [] g n := by
  have hl : ∀ (m k : Nat) (b : Int32), k + m = 64 → b = nI (ct (lb x) k) → PW zm_X6_ones 1 (zE (some (.int (nI (lc x)))) g n) 0 0 4 [(0, .long x), (2, .int b), (3, .int (nI k))] [] g n := by
    intro m
    induction m with
    | zero =>
      intro k b hk hb
      have hk : k = 64 := by omega
      subst hk
      refine pw_iload_n dX6_ones_4 2 rfl rfl ?_
      refine pw_bipush (v := 64) dX6_ones_5 (by decide) ?_
      refine pw_icmp_ge 25 dX6_ones_7 (by decide) (fun c_7 => ?_) (fun c_7 => ?_)
      · refine pw_iload_n dX6_ones_25 1 rfl rfl ?_
        refine pw_iret rfl dX6_ones_26 ?_
        exact ⟨by rw [hb]; rfl, rfl, rfl⟩
      · exact absurd (by decide) c_7
    | succ m ih =>
      intro k b hk hb
      refine pw_iload_n dX6_ones_4 2 rfl rfl ?_
      refine pw_bipush (v := 64) dX6_ones_5 (by decide) ?_
      refine pw_icmp_ge 25 dX6_ones_7 (by decide) (fun c_7 => ?_) (fun c_7 => ?_)
      · exact absurd c_7 (by rw [show (64 : Int32) = nI 64 from rfl, nI_ge_iff (by omega) (by omega)]; omega)
      · refine pw_iload_n dX6_ones_10 1 rfl rfl ?_
        refine pw_lload_n dX6_ones_11 0 rfl rfl ?_
        refine pw_iload_n dX6_ones_12 2 rfl rfl ?_
        refine pw_lshr dX6_ones_13 ?_
        refine pw_lconst (v := 1) dX6_ones_14 rfl ?_
        refine pw_land dX6_ones_15 ?_
        refine pw_l2i dX6_ones_16 ?_
        refine pw_iadd dX6_ones_17 ?_
        refine pw_istore_n (ls' := [(2, _), (0, _), (3, _)]) dX6_ones_18 rfl (by decide) rfl ?_
        refine pw_ls [1, 0, 2] (ls' := [(0, _), (2, _), (3, _)]) rfl ?_
        refine pw_iinc1 (j := 2) (ls' := [(3, _), (0, _), (2, _)]) dX6_ones_19 rfl (by decide) rfl ?_
        refine pw_ls [1, 2, 0] (ls' := [(0, _), (2, _), (3, _)]) rfl ?_
        refine pw_goto 4 dX6_ones_22 (by decide) ?_
        exact ih (k + 1) _ (by omega) (by rw [hb, lb_bit x (by omega)]; simp only [ct]; cases lb x k <;> simp [nI_1, nI_add] <;> rfl)
  refine pw_iconst (v := 0) dX6_ones_0 (by decide) ?_
  refine pw_istore_n (ls' := [(2, _), (0, _)]) dX6_ones_1 rfl (by decide) rfl ?_
  refine pw_ls [1, 0] (ls' := [(0, _), (2, _)]) rfl ?_
  refine pw_iconst (v := 0) dX6_ones_2 (by decide) ?_
  refine pw_istore_n (ls' := [(3, _), (0, _), (2, _)]) dX6_ones_3 rfl (by decide) rfl ?_
  refine pw_ls [1, 2, 0] (ls' := [(0, _), (2, _), (3, _)]) rfl ?_
  exact hl 64 0 _ (by omega) rfl

/-! ===== the reference: atoms, slips, sets ===== -/
/-- an int that is one of so many -/
def inB (x : Int32) (m : Nat) : Bool := decide (0 ≤ x.toInt) && decide (x.toInt < m)
theorem inB_ex {x : Int32} {m : Nat} (hm : m < 2147483648) (h : inB x m = true) : ∃ j, j < m ∧ x = nI j := by
  simp only [inB, Bool.and_eq_true, decide_eq_true_eq] at h
  exact vp_in_of (vp_in_iff.mpr h) (by omega)
theorem inB_nI {j m : Nat} (hj : j < m) (hm : m < 2147483648) : inB (nI j) m = true := by
  simp only [inB, Bool.and_eq_true, decide_eq_true_eq]
  rw [nI_toInt (by omega)]
  omega
theorem inB_le {x : Int32} {m : Nat} (hm : m + 1 < 2147483648) : inB x (m + 1) = true ↔ 0 ≤ x ∧ x ≤ nI m := by
  simp only [inB, Bool.and_eq_true, decide_eq_true_eq]
  rw [Int32.le_iff_toInt_le, Int32.le_iff_toInt_le, nI_toInt (by omega), Int32.toInt_zero]
  omega
theorem inB_m1 {x : Int32} {m : Nat} (hm : m < 2147483648) : inB x m = true ↔ 0 ≤ x ∧ x ≤ nI m - 1 := by
  cases m with
  | zero =>
    simp only [inB, Bool.and_eq_true, decide_eq_true_eq]
    rw [show nI 0 - 1 = (-1 : Int32) from by decide, Int32.le_iff_toInt_le, Int32.le_iff_toInt_le, Int32.toInt_zero, show (-1 : Int32).toInt = -1 from by decide]
    omega
  | succ m => rw [nI_pred, inB_le hm]
theorem zb_iff {p q : Prop} [Decidable p] [Decidable q] (h : p ↔ q) : zb p = zb q := zb_c h
theorem wAll_1 {a : Nat} (ha : a ≤ 6) (h6 : a ≠ 6) : (1 : Int64) <<< (((1 : Int32) <<< (nI a &&& 31)).toInt64 &&& 63) - 1 = wAll a := by
  have h2 : 2 ^ a < 64 := by
    have : a ≤ 5 := by omega
    exact Nat.lt_of_le_of_lt (Nat.pow_le_pow_right (by decide) this) (by decide)
  rw [ishl1 (by omega), lshl1 h2]
  unfold wAll
  rw [if_neg h6]
theorem t_allOf (a : Nat) (ha : a ≤ 6) (g : zg_G) (n : zg_N) : PW zm_X6_allOf 1 (zE (some (.long (wAll a))) g n) 0 0 0 [(0, .int (nI a))] [] g n := by
  refine pw_iload_n dX6_allOf_0 0 rfl rfl ?_
  refine pw_bipush (v := 6) dX6_allOf_1 (by decide) ?_
  refine pw_icmp_ne_N (b := 6) 12 dX6_allOf_3 (by decide) (by omega) (by omega) (fun c_3 => ?_) (fun c_3 => ?_)
  · refine pw_lconst (v := 1) dX6_allOf_12 rfl ?_
    refine pw_iconst (v := 1) dX6_allOf_13 (by decide) ?_
    refine pw_iload_n dX6_allOf_14 0 rfl rfl ?_
    refine pw_ishl dX6_allOf_15 ?_
    refine pw_lshl dX6_allOf_16 ?_
    refine pw_lconst (v := 1) dX6_allOf_17 rfl ?_
    refine pw_lsub dX6_allOf_18 ?_
    refine pw_lret rfl dX6_allOf_19 ?_
    exact ⟨by rw [wAll_1 ha c_3], rfl, rfl⟩
  · refine pw_ldc2 q1972 dX6_allOf_6 ?_
    refine pw_goto 19 dX6_allOf_9 (by decide) ?_
    refine pw_lret rfl dX6_allOf_19 ?_
    exact ⟨by subst c_3; rfl, rfl, rfl⟩
/-- the worlds below m in which atom k is so -/
def wAtTo (k : Nat) : Nat → Int64
  | 0 => 0
  | m + 1 => wAtTo k m ||| (if m.testBit k then lN (2 ^ m) else 0)
def wAt (k a : Nat) : Int64 := wAtTo k (2 ^ a)
theorem wAtTo_lb (k : Nat) : ∀ (m i : Nat), m ≤ 64 → i < 64 → lb (wAtTo k m) i = (decide (i < m) && i.testBit k)
  | 0, i, _, _ => by rw [wAtTo, lb_0]; simp
  | m + 1, i, hm, hi => by
    rw [wAtTo, lb_or, wAtTo_lb k m i (by omega) hi]
    by_cases h : i = m
    · subst h
      cases hb : i.testBit k
      · simp [lb_0]
      · simp [lb_lN hi, Nat.testBit_two_pow]
    · have : lb (if m.testBit k then lN (2 ^ m) else 0) i = false := by
        split
        · rw [lb_lN hi, Nat.testBit_two_pow]; simp; omega
        · exact lb_0 _
      rw [this, Bool.or_false]
      congr 1
      by_cases h2 : i < m
      · simp [h2]; omega
      · simp [h2]; omega
theorem nat_pow6 {a : Nat} (ha : a ≤ 6) : 2 ^ a ≤ 64 := Nat.le_trans (Nat.pow_le_pow_right (by decide) ha) (by decide)
theorem wAt_bit {w k : Nat} (hw : w < 64) (hk : k < 32) : ((nI w >>> (nI k &&& 31)) &&& 1).toInt64 <<< ((nI w).toInt64 &&& 63) = if w.testBit k then lN (2 ^ w) else 0 := by
  rw [ib_bit _ hk, ib_nI hk]
  cases w.testBit k
  · apply lb_ext
    intro i hi
    rw [lb_shl w hw _ hi]
    show (_ && lb (0 : Int32).toInt64 _) = lb 0 i
    rw [show (0 : Int32).toInt64 = 0 from by decide, lb_0, lb_0, Bool.and_false]
  · rw [if_pos rfl, if_pos rfl, show (1 : Int32).toInt64 = 1 from by decide, lshl1 hw]
theorem t_atomOf (k a : Nat) (hk : k < 32) (ha : a ≤ 6) (g : zg_G) (n : zg_N) : PW zm_X6_atomOf 1 (zE (some (.long (wAt k a))) g n) 0 0 0 [(0, .int (nI k)), (1, .int (nI a))] [] g n := by
  have h6 := nat_pow6 ha
  have hl : ∀ w, w ≤ 2 ^ a → PW zm_X6_atomOf 1 (zE (some (.long (wAt k a))) g n) 0 0 5 [(0, .int (nI k)), (1, .int (nI a)), (2, .long (wAtTo k w)), (4, .int (nI w))] [] g n := by
    refine zl_up (2 ^ a) (fun w hw ih => ?_)
    refine pw_iload dX6_atomOf_5 3 rfl ?_
    refine pw_iconst (v := 1) dX6_atomOf_7 (by decide) ?_
    refine pw_iload_n dX6_atomOf_8 1 rfl rfl ?_
    refine pw_ishl dX6_atomOf_9 ?_
    rw [ishl1 (show a < 32 by omega)]
    refine pw_icmp_ge_N 32 dX6_atomOf_10 (by decide) (by omega) (by omega) (fun c_10 => ?_) (fun c_10 => ?_)
    · refine pw_lload_n dX6_atomOf_32 2 rfl rfl ?_
      refine pw_lret rfl dX6_atomOf_33 ?_
      exact ⟨by rw [show w = 2 ^ a by omega]; rfl, rfl, rfl⟩
    · refine pw_lload_n dX6_atomOf_13 2 rfl rfl ?_
      refine pw_iload dX6_atomOf_14 3 rfl ?_
      refine pw_iload_n dX6_atomOf_16 0 rfl rfl ?_
      refine pw_ishr dX6_atomOf_17 ?_
      refine pw_iconst (v := 1) dX6_atomOf_18 (by decide) ?_
      refine pw_iand dX6_atomOf_19 ?_
      refine pw_i2l dX6_atomOf_20 ?_
      refine pw_iload dX6_atomOf_21 3 rfl ?_
      refine pw_lshl dX6_atomOf_23 ?_
      rw [wAt_bit (show w < 64 by omega) hk]
      refine pw_lor dX6_atomOf_24 ?_
      refine pw_lstore_n (ls' := [(2, _), (0, _), (1, _), (4, _)]) dX6_atomOf_25 rfl (by decide) rfl ?_
      refine pw_ls [1, 2, 0, 3] (ls' := [(0, _), (1, _), (2, _), (4, _)]) rfl ?_
      refine pw_iinc1 (j := 3) (ls' := [(4, _), (0, _), (1, _), (2, _)]) dX6_atomOf_26 rfl (by decide) rfl ?_
      refine pw_ls [1, 2, 3, 0] (ls' := [(0, _), (1, _), (2, _), (4, _)]) rfl ?_
      refine pw_goto 5 dX6_atomOf_29 (by decide) ?_
      exact ih (w + 1) (by omega) (by omega)
  refine pw_lconst (v := 0) dX6_atomOf_0 rfl ?_
  refine pw_lstore_n (ls' := [(2, _), (0, _), (1, _)]) dX6_atomOf_1 rfl (by decide) rfl ?_
  refine pw_ls [1, 2, 0] (ls' := [(0, _), (1, _), (2, _)]) rfl ?_
  refine pw_iconst (v := 0) dX6_atomOf_2 (by decide) ?_
  refine pw_istore (ls' := [(4, _), (0, _), (1, _), (2, _)]) dX6_atomOf_3 (by decide) rfl ?_
  refine pw_ls [1, 2, 3, 0] (ls' := [(0, _), (1, _), (2, _), (4, _)]) rfl ?_
  exact hl 0 (Nat.zero_le _)
/-- a belief is true in the world that there is -/
abbrev spTrue (S : zS) (k : Nat) : Prop := lb (sL S 0 k) (sN S 0 4) = true
theorem sp_true1 {S : zS} (hW : WF S) (k : Nat) : (sL S 0 k >>> ((nI (sN S 0 4)).toInt64 &&& 63)) &&& 1 = 1 ↔ spTrue S k := by
  rw [lb_bit _ hW.world64]
  cases h : lb (sL S 0 k) (sN S 0 4) <;> simp [spTrue, h]
theorem t_isTrue {g : zg_G} {n : zg_N} {S : zS} (hM : TSh g) (hT : TW n S) (hW : WF S) (k : Nat) (hk : okb S k) : PW zm_X6_isTrue 1 (zE (some (.int (zb (spTrue S k)))) g n) 0 0 0 [(0, .ref aT), (1, .int (nI k))] [] g n := by
  have hk17 := hk.lt hW
  refine pw_aload_n dX6_isTrue_0 0 rfl rfl ?_
  refine pw_getr 16 zc_X6 (ts_this hM) (by decide) q2002 (Or.inr ⟨_, rfl⟩) (tr_models hM) dX6_isTrue_1 ?_
  refine pw_iload_n dX6_isTrue_4 1 rfl rfl ?_
  refine pw_lald _ rfl (ts_models hM) (by omega) (by decide) dX6_isTrue_5 ?_
  rw [hT.md hk]
  refine pw_aload_n dX6_isTrue_6 0 rfl rfl ?_
  refine pw_getr 12 zc_X6 (ts_this hM) (by decide) q1998 (Or.inr ⟨_, rfl⟩) (tr_told hM) dX6_isTrue_7 ?_
  refine pw_iconst (v := 4) dX6_isTrue_10 (by decide) ?_
  refine pw_iald 4 rfl (ts_told hM) (by decide) (by decide) dX6_isTrue_11 ?_
  rw [hT.told (k := 4) (by decide)]
  refine pw_lshr dX6_isTrue_12 ?_
  refine pw_lconst (v := 1) dX6_isTrue_13 rfl ?_
  refine pw_land dX6_isTrue_14 ?_
  refine pw_lconst (v := 1) dX6_isTrue_15 rfl ?_
  refine pw_lcmp dX6_isTrue_16 ?_
  refine pw_if_ne_L 24 dX6_isTrue_17 (by decide) (fun c_17 => ?_) (fun c_17 => ?_)
  · refine pw_iconst (v := 0) dX6_isTrue_24 (by decide) ?_
    refine pw_zret _ rfl rfl dX6_isTrue_25 ?_
    exact ⟨by rw [zb_f (fun h => c_17 ((sp_true1 hW k).mpr h))], rfl, rfl⟩
  · refine pw_iconst (v := 1) dX6_isTrue_20 (by decide) ?_
    refine pw_goto 25 dX6_isTrue_21 (by decide) ?_
    refine pw_zret _ rfl rfl dX6_isTrue_25 ?_
    exact ⟨by rw [zb_t ((sp_true1 hW k).mp c_17)], rfl, rfl⟩
/-- the slips that are true, the first m looked at -/
def spTr (S : zS) : Nat → Int32
  | 0 => 0
  | k + 1 => spTr S k ||| (if spTrue S k then nI (2 ^ k) else 0)
theorem t_truthsNow {g : zg_G} {n : zg_N} {S : zS} (hM : TSh g) (hT : TW n S) (hW : WF S) : PW zm_X6_truthsNow 2 (zE (some (.int (spTr S (sN S 0 1)))) g n) 0 0 0 [(0, .ref aT)] [] g n := by
  have hs := hW.slips
  have hl : ∀ k, k ≤ sN S 0 1 → PW zm_X6_truthsNow 2 (zE (some (.int (spTr S (sN S 0 1)))) g n) 0 0 4 [(0, .ref aT), (1, .int (spTr S k)), (2, .int (nI k))] [] g n := by
    refine zl_up _ (fun k hk ih => ?_)
    refine pw_iload_n dX6_truthsNow_4 2 rfl rfl ?_
    refine pw_aload_n dX6_truthsNow_5 0 rfl rfl ?_
    refine pw_getr 12 zc_X6 (ts_this hM) (by decide) q1998 (Or.inr ⟨_, rfl⟩) (tr_told hM) dX6_truthsNow_6 ?_
    refine pw_iconst (v := 1) dX6_truthsNow_9 (by decide) ?_
    refine pw_iald 1 rfl (ts_told hM) (by decide) (by decide) dX6_truthsNow_10 ?_
    rw [hT.told (k := 1) (by decide)]
    refine pw_icmp_ge_N 38 dX6_truthsNow_11 (by decide) (by omega) (by omega) (fun c_11 => ?_) (fun c_11 => ?_)
    · refine pw_iload_n dX6_truthsNow_38 1 rfl rfl ?_
      refine pw_iret rfl dX6_truthsNow_39 ?_
      exact ⟨by rw [show k = sN S 0 1 by omega], rfl, rfl⟩
    · refine pw_iload_n dX6_truthsNow_14 1 rfl rfl ?_
      refine pw_aload_n dX6_truthsNow_15 0 rfl rfl ?_
      refine pw_iload_n dX6_truthsNow_16 2 rfl rfl ?_
      refine pw_callV1 zmM_X6_isTrue rfl (lw_V q2371 q2373 qs93 q150 q2374) rfl (ts_this hM) zc_X6 (t_isTrue hM hT hW k (Or.inl c_11)) (by decide) (Nat.le_refl _) (Nat.le_refl _) rfl (Nat.le_of_ble_eq_true rfl) (Nat.le_of_ble_eq_true rfl) dX6_truthsNow_17 zE.nx (zE_kk ?_)
      refine pw_if_eq_B 29 dX6_truthsNow_20 (by decide) (fun c_20 => ?_) (fun c_20 => ?_)
      · refine pw_iconst (v := 0) dX6_truthsNow_29 (by decide) ?_
        refine pw_ior dX6_truthsNow_30 ?_
        refine pw_istore_n (ls' := [(1, _), (0, _), (2, _)]) dX6_truthsNow_31 rfl (by decide) rfl ?_
        refine pw_ls [1, 0, 2] (ls' := [(0, _), (1, _), (2, _)]) rfl ?_
        refine pw_iinc1 (j := 2) (ls' := [(2, _), (0, _), (1, _)]) dX6_truthsNow_32 rfl (by decide) rfl ?_
        refine pw_ls [1, 2, 0] (ls' := [(0, _), (1, _), (2, _)]) rfl ?_
        refine pw_goto 4 dX6_truthsNow_35 (by decide) ?_
        rw [show spTr S k ||| 0 = spTr S (k + 1) from by rw [spTr, if_neg c_20]]; exact ih (k + 1) (by omega) (by omega)
      · refine pw_iconst (v := 1) dX6_truthsNow_23 (by decide) ?_
        refine pw_iload_n dX6_truthsNow_24 2 rfl rfl ?_
        refine pw_ishl dX6_truthsNow_25 ?_
        rw [ishl1 (show k < 32 by omega)]
        refine pw_goto 30 dX6_truthsNow_26 (by decide) ?_
        refine pw_ior dX6_truthsNow_30 ?_
        refine pw_istore_n (ls' := [(1, _), (0, _), (2, _)]) dX6_truthsNow_31 rfl (by decide) rfl ?_
        refine pw_ls [1, 0, 2] (ls' := [(0, _), (1, _), (2, _)]) rfl ?_
        refine pw_iinc1 (j := 2) (ls' := [(2, _), (0, _), (1, _)]) dX6_truthsNow_32 rfl (by decide) rfl ?_
        refine pw_ls [1, 2, 0] (ls' := [(0, _), (1, _), (2, _)]) rfl ?_
        refine pw_goto 4 dX6_truthsNow_35 (by decide) ?_
        rw [show spTr S k ||| nI (2 ^ k) = spTr S (k + 1) from by rw [spTr, if_pos c_20]]; exact ih (k + 1) (by omega) (by omega)
  refine pw_iconst (v := 0) dX6_truthsNow_0 (by decide) ?_
  refine pw_istore_n (ls' := [(1, _), (0, _)]) dX6_truthsNow_1 rfl (by decide) rfl ?_
  refine pw_ls [1, 0] (ls' := [(0, _), (1, _)]) rfl ?_
  refine pw_iconst (v := 0) dX6_truthsNow_2 (by decide) ?_
  refine pw_istore_n (ls' := [(2, _), (0, _), (1, _)]) dX6_truthsNow_3 rfl (by decide) rfl ?_
  refine pw_ls [1, 2, 0] (ls' := [(0, _), (1, _), (2, _)]) rfl ?_
  exact hl 0 (Nat.zero_le _)
/-- refused: which exception, which count -/
def tBad (n : zg_N) (what : Int32) (r : Nat) : zg_N := zpai (zpfi n aT tf_thrown what) at_refused r (zai n at_refused r + 1)
theorem t_bad {g : zg_G} {n : zg_N} (hM : TSh g) (c : Prop) [Decidable c] (what : Int32) (hw : ¬ what = 0) (r : Nat) (hr : r < 3) (h0 : zfi n aT tf_thrown = 0) : PW zm_X6_bad 1 (zE (some (.int (zb c))) g (if c then tBad n what r else n)) 0 0 0 [(0, .ref aT), (1, .int (zb c)), (2, .int what), (3, .int (nI r))] [] g n := by
  refine pw_iload_n dX6_bad_0 1 rfl rfl ?_
  refine pw_if_eq_B 26 dX6_bad_1 (by decide) (fun c_1 => ?_) (fun c_1 => ?_)
  · refine pw_aload_n dX6_bad_26 0 rfl rfl ?_
    refine pw_geti 0 zc_X6 (ts_this hM) (by decide) q1986 (Or.inl rfl) dX6_bad_27 ?_
    refine pw_if_eq 37 dX6_bad_30 (by decide) (fun c_30 => ?_) (fun c_30 => ?_)
    · refine pw_iconst (v := 0) dX6_bad_37 (by decide) ?_
      refine pw_zret _ rfl rfl dX6_bad_38 ?_
      exact ⟨by rw [zb_f c_1], rfl, (if_neg c_1).symm⟩
    · exact absurd h0 c_30
  · refine pw_aload_n dX6_bad_4 0 rfl rfl ?_
    refine pw_geti 0 zc_X6 (ts_this hM) (by decide) q1986 (Or.inl rfl) dX6_bad_5 ?_
    refine pw_if_ne 26 dX6_bad_8 (by decide) (fun c_8 => ?_) (fun c_8 => ?_)
    · exact absurd h0 c_8
    · refine pw_aload_n dX6_bad_11 0 rfl rfl ?_
      refine pw_iload_n dX6_bad_12 2 rfl rfl ?_
      refine pw_puti 0 zc_X6 (ts_this hM) (by decide) (by decide) q1986 rfl (Or.inl rfl) rfl rfl dX6_bad_13 ?_
      refine pw_aload_n dX6_bad_16 0 rfl rfl ?_
      refine pw_getr 10 zc_X6 (ts_this hM) (by decide) q1996 (Or.inr ⟨_, rfl⟩) (tr_refused hM) dX6_bad_17 ?_
      refine pw_iload_n dX6_bad_20 3 rfl rfl ?_
      refine pw_dup2_11 dX6_bad_21 rfl rfl ?_
      refine pw_iald _ rfl (ts_refused hM) (by omega) (by decide) dX6_bad_22 ?_
      refine pw_iconst (v := 1) dX6_bad_23 (by decide) ?_
      refine pw_iadd dX6_bad_24 ?_
      refine pw_iast _ rfl (ts_refused hM) (by decide) (by omega) (by decide) dX6_bad_25 ?_
      refine pw_aload_n dX6_bad_26 0 rfl rfl ?_
      refine pw_geti 0 zc_X6 (ts_this hM) (by decide) q1986 (Or.inl rfl) dX6_bad_27 ?_
      refine pw_if_eq 37 dX6_bad_30 (by decide) (fun c_30 => ?_) (fun c_30 => ?_)
      · exact absurd c_30 hw
      · refine pw_iconst (v := 1) dX6_bad_33 (by decide) ?_
        refine pw_goto 38 dX6_bad_34 (by decide) ?_
        refine pw_zret _ rfl rfl dX6_bad_38 ?_
        exact ⟨by rw [zb_t c_1], rfl, (if_pos c_1).symm⟩

/-! ===== the reference: simple questions ===== -/
def tXF (a _ : Nat) : Prop := a = aT
def tXA (a : Nat) : Prop := aT < a ∧ a < 1545
theorem tF_X : ∀ a k, tF a k → tXF a k := fun _ _ h => h.1
theorem tA_X : ∀ a, tA a → tXA a := fun _ h => ⟨h.1, h.2.1⟩
/-- refused, and counted -/
def sRef (S : zS) (r : Nat) : zS := (S.1, S.2.1, zu2 S.2.2.1 0 r (sI S 0 r + 1), S.2.2.2)
/-- the end of a method of the reference that is asked: what is thrown, the answer, the state -/
def tQ (g : zg_G) (n : zg_N) (R : Int32 × Value × zS) : zP := fun o g1 n1 => o = .inl (some R.2.1) ∧ g1 = g ∧ TW n1 R.2.2 ∧ zfi n1 aT tf_thrown = R.1 ∧ zFr tXF tXA n n1
theorem t_start {n : zg_N} {S : zS} (hT : TW n S) (hW : WF S) : TW (zpfi n aT 0 0) S ∧ zfi (zpfi n aT 0 0) aT tf_thrown = 0 ∧ zFr tXF tXA n (zpfi n aT 0 0) :=
  ⟨hT.keep hW (zFr.rf.pfi ⟨rfl, by decide, by decide, by decide, by decide, by decide⟩), rfl, zFr.rf.pfi rfl⟩
theorem TW.refd {n : zg_N} {S : zS} (hT : TW n S) (hW : WF S) (what : Int32) (r : Nat) (hr : r < 3) : TW (tBad n what r) (sRef S r) := by
  have h1 := hT.keep hW (zFr.rf.pfi (a := aT) (k := tf_thrown) (v := what) ⟨rfl, by decide, by decide, by decide, by decide, by decide⟩)
  have h2 := hT.ref hr
  obtain ⟨a1, a2, a3, a4, a5, a6, a7, a8, a9, a10, a11⟩ := h1
  have hne : ∀ b j, b ≠ at_refused → zai (tBad n what r) b j = zai (zpfi n aT tf_thrown what) b j := fun b j h => by
    unfold tBad; rw [zai_p, if_neg (fun z => h z.1)]
  have hi3 : sN S 0 6 ≤ 3 := hW.imgs
  refine ⟨fun k hk => ?_, a2, fun k hk => ⟨?_, (a3 k hk).2⟩, a4, fun k hk => ?_, a6, ⟨a7.1, fun i hi j hj => ?_⟩, ⟨a8.1, fun k hk => ?_⟩, a9, fun k hk => ?_, ?_⟩
  · rw [hne _ _ (by decide)]; exact a1 k hk
  · rw [hne _ _ (by decide)]; exact (a3 k hk).1
  · rw [hne _ _ (by decide)]; exact a5 k hk
  · rw [hne _ _ (by show 1058 + 1 + i ≠ 1047; omega)]; exact a7.2 i hi j hj
  · rw [hne _ _ (by decide)]; exact a8.2 k hk
  · show zai (tBad n what r) at_refused k = zu2 S.2.2.1 0 r (sI S 0 r + 1) 0 k
    unfold tBad
    rw [zai_p, zu2]
    by_cases h : k = r
    · subst h
      rw [if_pos ⟨rfl, rfl⟩, if_pos ⟨rfl, rfl⟩, h2]
    · rw [if_neg (fun z => h z.2), if_neg (fun z => h z.2)]
      exact a10 k hk
  · obtain ⟨b1, c, N, b2, b3, b4⟩ := a11
    have hw10 := hW.tl
    refine ⟨b1, c, N, b2, fun i hi => ⟨?_, ?_⟩, fun k q hq => ?_⟩
    · rw [hne _ _ (by show 1084 + 1 + i ≠ 1047; omega)]; exact (b3 i hi).1
    · rw [hne _ _ (by show 1084 + 1 + i ≠ 1047; omega)]; exact (b3 i hi).2
    · obtain ⟨i, m, d1, d2, d3, d4, d5⟩ := b4 k q hq
      have hx : at_who + 1 + k ≠ at_refused := by show 1062 + 1 + k ≠ 1047; omega
      exact ⟨i, m, d1, (hne _ _ hx).trans d2, (hne _ _ hx).trans d3, (hne _ _ hx).trans d4, d5⟩
theorem t_qbad {g : zg_G} {n n0 : zg_N} {S : zS} (hT0 : TW n0 S) (hW : WF S) (hf0 : zFr tXF tXA n n0) (what : Int32) (r : Nat) (hr : r < 3) (v : Value) : tQ g n (what, v, sRef S r) (.inl (some v)) g (tBad n0 what r) :=
  ⟨rfl, rfl, hT0.refd hW what r hr, rfl, (hf0.pfi rfl).pai (by constructor <;> decide)⟩
theorem t_qok {g : zg_G} {n n0 : zg_N} {S : zS} (hT0 : TW n0 S) (hth : zfi n0 aT tf_thrown = 0) (hf0 : zFr tXF tXA n n0) (v : Value) : tQ g n (0, v, S) (.inl (some v)) g n0 := ⟨rfl, rfl, hT0, hth, hf0⟩
theorem t_bad1 {g : zg_G} {n : zg_N} (hM : TSh g) (what : Int32) (hw : ¬ what = 0) (r : Nat) (hr : r < 3) (h0 : zfi n aT tf_thrown = 0) : PW zm_X6_bad 1 (zE (some (.int 1)) g (tBad n what r)) 0 0 0 [(0, .ref aT), (1, .int 1), (2, .int what), (3, .int (nI r))] [] g n := t_bad hM True what hw r hr h0
theorem t_bad0 {g : zg_G} {n : zg_N} (hM : TSh g) (what : Int32) (hw : ¬ what = 0) (r : Nat) (hr : r < 3) (h0 : zfi n aT tf_thrown = 0) : PW zm_X6_bad 1 (zE (some (.int 0)) g n) 0 0 0 [(0, .ref aT), (1, .int 0), (2, .int what), (3, .int (nI r))] [] g n := t_bad hM False what hw r hr h0
theorem t_isSlip {g : zg_G} {n : zg_N} {S : zS} (hM : TSh g) (hT : TW n S) (hW : WF S) (x : Int32) : PW zm_X6_isSlip 2 (zE (some (.int (zb (inB x (sN S 0 1) = true)))) g n) 0 0 0 [(0, .ref aT), (1, .int x)] [] g n := by
  have hs := hW.slips
  refine pw_iload_n dX6_isSlip_0 1 rfl rfl ?_
  refine pw_iconst (v := 0) dX6_isSlip_1 (by decide) ?_
  refine pw_aload_n dX6_isSlip_2 0 rfl rfl ?_
  refine pw_getr 12 zc_X6 (ts_this hM) (by decide) q1998 (Or.inr ⟨_, rfl⟩) (tr_told hM) dX6_isSlip_3 ?_
  refine pw_iconst (v := 1) dX6_isSlip_6 (by decide) ?_
  refine pw_iald 1 rfl (ts_told hM) (by decide) (by decide) dX6_isSlip_7 ?_
  rw [hT.told (k := 1) (by decide)]
  refine pw_iconst (v := 1) dX6_isSlip_8 (by decide) ?_
  refine pw_isub dX6_isSlip_9 ?_
  refine pw_callS3 zmM_X6_in rfl (lw_S q2185 q2186 q150 q2187) (t_in _ _ _ _ _) (by decide) (Nat.le_refl _) (Nat.le_refl _) rfl (Nat.le_of_ble_eq_true rfl) (Nat.le_of_ble_eq_true rfl) dX6_isSlip_10 zE.nx (zE_kk ?_)
  refine pw_zret _ rfl zb_nar dX6_isSlip_13 ?_
  exact ⟨by rw [zb_iff (inB_m1 (by omega))], rfl, rfl⟩
theorem t_isWeek (x : Int32) (g : zg_G) (n : zg_N) : PW zm_X6_isWeek 2 (zE (some (.int (zb (inB x 52 = true)))) g n) 0 0 0 [(0, .int x)] [] g n := by
  refine pw_iload_n dX6_isWeek_0 0 rfl rfl ?_
  refine pw_iconst (v := 0) dX6_isWeek_1 (by decide) ?_
  refine pw_bipush (v := 51) dX6_isWeek_2 (by decide) ?_
  refine pw_callS3 zmM_X6_in rfl (lw_S q2185 q2186 q150 q2187) (t_in _ _ _ _ _) (by decide) (Nat.le_refl _) (Nat.le_refl _) rfl (Nat.le_of_ble_eq_true rfl) (Nat.le_of_ble_eq_true rfl) dX6_isWeek_4 zE.nx (zE_kk ?_)
  refine pw_zret _ rfl zb_nar dX6_isWeek_7 ?_
  exact ⟨by rw [zb_iff (inB_le (m := 51) (by decide))]; rfl, rfl, rfl⟩
theorem t_isSchool (x : Int32) (g : zg_G) (n : zg_N) : PW zm_X6_isSchool 2 (zE (some (.int (zb (inB x 2 = true)))) g n) 0 0 0 [(0, .int x)] [] g n := by
  refine pw_iload_n dX6_isSchool_0 0 rfl rfl ?_
  refine pw_iconst (v := 0) dX6_isSchool_1 (by decide) ?_
  refine pw_iconst (v := 1) dX6_isSchool_2 (by decide) ?_
  refine pw_callS3 zmM_X6_in rfl (lw_S q2185 q2186 q150 q2187) (t_in _ _ _ _ _) (by decide) (Nat.le_refl _) (Nat.le_refl _) rfl (Nat.le_of_ble_eq_true rfl) (Nat.le_of_ble_eq_true rfl) dX6_isSchool_3 zE.nx (zE_kk ?_)
  refine pw_zret _ rfl zb_nar dX6_isSchool_6 ?_
  exact ⟨by rw [zb_iff (inB_le (m := 1) (by decide))]; rfl, rfl, rfl⟩
theorem t_areSlips {g : zg_G} {n : zg_N} {S : zS} (hM : TSh g) (hT : TW n S) (hW : WF S) (x : Int32) : PW zm_X6_areSlips 2 (zE (some (.int (zb (inB x (2 ^ sN S 0 1) = true)))) g n) 0 0 0 [(0, .ref aT), (1, .int x)] [] g n := by
  have hs := hW.slips
  have h2 : 2 ^ sN S 0 1 ≤ 4096 := Nat.pow_le_pow_right (by decide) hs
  refine pw_iload_n dX6_areSlips_0 1 rfl rfl ?_
  refine pw_iconst (v := 0) dX6_areSlips_1 (by decide) ?_
  refine pw_iconst (v := 1) dX6_areSlips_2 (by decide) ?_
  refine pw_aload_n dX6_areSlips_3 0 rfl rfl ?_
  refine pw_getr 12 zc_X6 (ts_this hM) (by decide) q1998 (Or.inr ⟨_, rfl⟩) (tr_told hM) dX6_areSlips_4 ?_
  refine pw_iconst (v := 1) dX6_areSlips_7 (by decide) ?_
  refine pw_iald 1 rfl (ts_told hM) (by decide) (by decide) dX6_areSlips_8 ?_
  rw [hT.told (k := 1) (by decide)]
  refine pw_ishl dX6_areSlips_9 ?_
  rw [ishl1 (by omega)]
  refine pw_iconst (v := 1) dX6_areSlips_10 (by decide) ?_
  refine pw_isub dX6_areSlips_11 ?_
  refine pw_callS3 zmM_X6_in rfl (lw_S q2185 q2186 q150 q2187) (t_in _ _ _ _ _) (by decide) (Nat.le_refl _) (Nat.le_refl _) rfl (Nat.le_of_ble_eq_true rfl) (Nat.le_of_ble_eq_true rfl) dX6_areSlips_12 zE.nx (zE_kk ?_)
  refine pw_zret _ rfl zb_nar dX6_areSlips_15 ?_
  exact ⟨by rw [zb_iff (inB_m1 (by omega))], rfl, rfl⟩
/-- two slips fall out in a week -/
abbrev spFalls (S : zS) (a b w : Nat) : Prop := sL S 0 a &&& sL S 0 b &&& sL S 2 w = 0
theorem t_falls {g : zg_G} {n : zg_N} {S : zS} (hM : TSh g) (hT : TW n S) (hW : WF S) (a b w : Nat) (ha : okb S a) (hb : okb S b) (hw : w < 52) : PW zm_X6_falls 1 (zE (some (.int (zb (spFalls S a b w)))) g n) 0 0 0 [(0, .ref aT), (1, .int (nI a)), (2, .int (nI b)), (3, .int (nI w))] [] g n := by
  have := ha.lt hW; have := hb.lt hW
  refine pw_aload_n dX6_falls_0 0 rfl rfl ?_
  refine pw_getr 16 zc_X6 (ts_this hM) (by decide) q2002 (Or.inr ⟨_, rfl⟩) (tr_models hM) dX6_falls_1 ?_
  refine pw_iload_n dX6_falls_4 1 rfl rfl ?_
  refine pw_lald _ rfl (ts_models hM) (by omega) (by decide) dX6_falls_5 ?_
  rw [hT.md ha]
  refine pw_aload_n dX6_falls_6 0 rfl rfl ?_
  refine pw_getr 16 zc_X6 (ts_this hM) (by decide) q2002 (Or.inr ⟨_, rfl⟩) (tr_models hM) dX6_falls_7 ?_
  refine pw_iload_n dX6_falls_10 2 rfl rfl ?_
  refine pw_lald _ rfl (ts_models hM) (by omega) (by decide) dX6_falls_11 ?_
  rw [hT.md hb]
  refine pw_land dX6_falls_12 ?_
  refine pw_aload_n dX6_falls_13 0 rfl rfl ?_
  refine pw_getr 19 zc_X6 (ts_this hM) (by decide) q2005 (Or.inr ⟨_, rfl⟩) (tr_leftIn hM) dX6_falls_14 ?_
  refine pw_iload_n dX6_falls_17 3 rfl rfl ?_
  refine pw_lald _ rfl (ts_leftIn hM) (by omega) (by decide) dX6_falls_18 ?_
  rw [hT.lf hw]
  refine pw_land dX6_falls_19 ?_
  refine pw_lconst (v := 0) dX6_falls_20 rfl ?_
  refine pw_lcmp dX6_falls_21 ?_
  refine pw_if_ne_L 29 dX6_falls_22 (by decide) (fun c_22 => ?_) (fun c_22 => ?_)
  · refine pw_iconst (v := 0) dX6_falls_29 (by decide) ?_
    refine pw_zret _ rfl rfl dX6_falls_30 ?_
    exact ⟨by rw [zb_f c_22], rfl, rfl⟩
  · refine pw_iconst (v := 1) dX6_falls_25 (by decide) ?_
    refine pw_goto 30 dX6_falls_26 (by decide) ?_
    refine pw_zret _ rfl rfl dX6_falls_30 ?_
    exact ⟨by rw [zb_t c_22], rfl, rfl⟩
abbrev spDead (S : zS) (k w : Nat) : Prop := sL S 0 k &&& sL S 2 w = 0
theorem t_isDead {g : zg_G} {n : zg_N} {S : zS} (hM : TSh g) (hT : TW n S) (hW : WF S) (a w : Nat) (ha : okb S a) (hw : w < 52) : PW zm_X6_isDead 1 (zE (some (.int (zb (spDead S a w)))) g n) 0 0 0 [(0, .ref aT), (1, .int (nI a)), (2, .int (nI w))] [] g n := by
  have := ha.lt hW
  refine pw_aload_n dX6_isDead_0 0 rfl rfl ?_
  refine pw_getr 16 zc_X6 (ts_this hM) (by decide) q2002 (Or.inr ⟨_, rfl⟩) (tr_models hM) dX6_isDead_1 ?_
  refine pw_iload_n dX6_isDead_4 1 rfl rfl ?_
  refine pw_lald _ rfl (ts_models hM) (by omega) (by decide) dX6_isDead_5 ?_
  rw [hT.md ha]
  refine pw_aload_n dX6_isDead_6 0 rfl rfl ?_
  refine pw_getr 19 zc_X6 (ts_this hM) (by decide) q2005 (Or.inr ⟨_, rfl⟩) (tr_leftIn hM) dX6_isDead_7 ?_
  refine pw_iload_n dX6_isDead_10 2 rfl rfl ?_
  refine pw_lald _ rfl (ts_leftIn hM) (by omega) (by decide) dX6_isDead_11 ?_
  rw [hT.lf hw]
  refine pw_land dX6_isDead_12 ?_
  refine pw_lconst (v := 0) dX6_isDead_13 rfl ?_
  refine pw_lcmp dX6_isDead_14 ?_
  refine pw_if_ne_L 22 dX6_isDead_15 (by decide) (fun c_15 => ?_) (fun c_15 => ?_)
  · refine pw_iconst (v := 0) dX6_isDead_22 (by decide) ?_
    refine pw_zret _ rfl rfl dX6_isDead_23 ?_
    exact ⟨by rw [zb_f c_15], rfl, rfl⟩
  · refine pw_iconst (v := 1) dX6_isDead_18 (by decide) ?_
    refine pw_goto 23 dX6_isDead_19 (by decide) ?_
    refine pw_zret _ rfl rfl dX6_isDead_23 ?_
    exact ⟨by rw [zb_t c_15], rfl, rfl⟩
/-- worlds of a week that have all of a set, the first m slips looked at -/
def spTg (S : zS) (b : Int32) (w : Nat) : Nat → Int64
  | 0 => sL S 2 w
  | k + 1 => spTg S b w k &&& (if ib b k then sL S 0 k else -1)
theorem ib_eq1 {b : Int32} {k : Nat} (hk : k < 32) : (b >>> (nI k &&& 31)) &&& 1 = 1 ↔ ib b k = true := by
  rw [ib_bit b hk]; cases ib b k <;> simp
theorem ib_eq0 {b : Int32} {k : Nat} (hk : k < 32) : (b >>> (nI k &&& 31)) &&& 1 = 0 ↔ ib b k = false := by
  rw [ib_bit b hk]; cases ib b k <;> simp
abbrev spTog (S : zS) (b : Int32) (w : Nat) : Int64 := spTg S b w (sN S 0 1)
theorem t_togetherIn {g : zg_G} {n : zg_N} {S : zS} (hM : TSh g) (hT : TW n S) (hW : WF S) (b : Int32) (w : Nat) (hw : w < 52) : PW zm_X6_togetherIn 1 (zE (some (.long (spTog S b w))) g n) 0 0 0 [(0, .ref aT), (1, .int b), (2, .int (nI w))] [] g n := by
  have hs := hW.slips
  have hl : ∀ k, k ≤ sN S 0 1 → PW zm_X6_togetherIn 1 (zE (some (.long (spTog S b w))) g n) 0 0 10 [(0, .ref aT), (1, .int b), (2, .int (nI w)), (3, .long (spTg S b w k)), (5, .int (nI k))] [] g n := by
    refine zl_up _ (fun k hk ih => ?_)
    refine pw_iload dX6_togetherIn_10 4 rfl ?_
    refine pw_aload_n dX6_togetherIn_12 0 rfl rfl ?_
    refine pw_getr 12 zc_X6 (ts_this hM) (by decide) q1998 (Or.inr ⟨_, rfl⟩) (tr_told hM) dX6_togetherIn_13 ?_
    refine pw_iconst (v := 1) dX6_togetherIn_16 (by decide) ?_
    refine pw_iald 1 rfl (ts_told hM) (by decide) (by decide) dX6_togetherIn_17 ?_
    rw [hT.told (k := 1) (by decide)]
    refine pw_icmp_ge_N 53 dX6_togetherIn_18 (by decide) (by omega) (by omega) (fun c_18 => ?_) (fun c_18 => ?_)
    · refine pw_lload_n dX6_togetherIn_53 3 rfl rfl ?_
      refine pw_lret rfl dX6_togetherIn_54 ?_
      exact ⟨by rw [show k = sN S 0 1 by omega], rfl, rfl⟩
    · refine pw_lload_n dX6_togetherIn_21 3 rfl rfl ?_
      refine pw_iload_n dX6_togetherIn_22 1 rfl rfl ?_
      refine pw_iload dX6_togetherIn_23 4 rfl ?_
      refine pw_ishr dX6_togetherIn_25 ?_
      refine pw_iconst (v := 1) dX6_togetherIn_26 (by decide) ?_
      refine pw_iand dX6_togetherIn_27 ?_
      refine pw_iconst (v := 1) dX6_togetherIn_28 (by decide) ?_
      refine pw_icmp_ne 42 dX6_togetherIn_29 (by decide) (fun c_29 => ?_) (fun c_29 => ?_)
      · refine pw_ldc2 q1972 dX6_togetherIn_42 ?_
        refine pw_land dX6_togetherIn_45 ?_
        refine pw_lstore_n (ls' := [(3, _), (0, _), (1, _), (2, _), (5, _)]) dX6_togetherIn_46 rfl (by decide) rfl ?_
        refine pw_ls [1, 2, 3, 0, 4] (ls' := [(0, _), (1, _), (2, _), (3, _), (5, _)]) rfl ?_
        refine pw_iinc1 (j := 4) (ls' := [(5, _), (0, _), (1, _), (2, _), (3, _)]) dX6_togetherIn_47 rfl (by decide) rfl ?_
        refine pw_ls [1, 2, 3, 4, 0] (ls' := [(0, _), (1, _), (2, _), (3, _), (5, _)]) rfl ?_
        refine pw_goto 10 dX6_togetherIn_50 (by decide) ?_
        rw [show spTg S b w k &&& -1 = spTg S b w (k + 1) from by rw [spTg, if_neg (fun h => c_29 ((ib_eq1 (by omega)).mpr h))]]; exact ih (k + 1) (by omega) (by omega)
      · refine pw_aload_n dX6_togetherIn_32 0 rfl rfl ?_
        refine pw_getr 16 zc_X6 (ts_this hM) (by decide) q2002 (Or.inr ⟨_, rfl⟩) (tr_models hM) dX6_togetherIn_33 ?_
        refine pw_iload dX6_togetherIn_36 4 rfl ?_
        refine pw_lald _ rfl (ts_models hM) (by omega) (by decide) dX6_togetherIn_38 ?_
        rw [hT.md (Or.inl c_18)]
        refine pw_goto 45 dX6_togetherIn_39 (by decide) ?_
        refine pw_land dX6_togetherIn_45 ?_
        refine pw_lstore_n (ls' := [(3, _), (0, _), (1, _), (2, _), (5, _)]) dX6_togetherIn_46 rfl (by decide) rfl ?_
        refine pw_ls [1, 2, 3, 0, 4] (ls' := [(0, _), (1, _), (2, _), (3, _), (5, _)]) rfl ?_
        refine pw_iinc1 (j := 4) (ls' := [(5, _), (0, _), (1, _), (2, _), (3, _)]) dX6_togetherIn_47 rfl (by decide) rfl ?_
        refine pw_ls [1, 2, 3, 4, 0] (ls' := [(0, _), (1, _), (2, _), (3, _), (5, _)]) rfl ?_
        refine pw_goto 10 dX6_togetherIn_50 (by decide) ?_
        rw [show spTg S b w k &&& sL S 0 k = spTg S b w (k + 1) from by rw [spTg, if_pos ((ib_eq1 (by omega)).mp c_29)]]; exact ih (k + 1) (by omega) (by omega)
  refine pw_aload_n dX6_togetherIn_0 0 rfl rfl ?_
  refine pw_getr 19 zc_X6 (ts_this hM) (by decide) q2005 (Or.inr ⟨_, rfl⟩) (tr_leftIn hM) dX6_togetherIn_1 ?_
  refine pw_iload_n dX6_togetherIn_4 2 rfl rfl ?_
  refine pw_lald _ rfl (ts_leftIn hM) (by omega) (by decide) dX6_togetherIn_5 ?_
  rw [hT.lf hw]
  refine pw_lstore_n (ls' := [(3, _), (0, _), (1, _), (2, _)]) dX6_togetherIn_6 rfl (by decide) rfl ?_
  refine pw_ls [1, 2, 3, 0] (ls' := [(0, _), (1, _), (2, _), (3, _)]) rfl ?_
  refine pw_iconst (v := 0) dX6_togetherIn_7 (by decide) ?_
  refine pw_istore (ls' := [(5, _), (0, _), (1, _), (2, _), (3, _)]) dX6_togetherIn_8 (by decide) rfl ?_
  refine pw_ls [1, 2, 3, 4, 0] (ls' := [(0, _), (1, _), (2, _), (3, _), (5, _)]) rfl ?_
  exact hl 0 (Nat.zero_le _)
/-- the slips that follow of some worlds -/
def spFo (S : zS) (v : Int64) : Nat → Int32
  | 0 => 0
  | k + 1 => spFo S v k ||| (if v &&& (sL S 0 k ^^^ -1) = 0 then nI (2 ^ k) else 0)
theorem t_followingOf {g : zg_G} {n : zg_N} {S : zS} (hM : TSh g) (hT : TW n S) (hW : WF S) (v : Int64) : PW zm_X6_followingOf 1 (zE (some (.int (spFo S v (sN S 0 1)))) g n) 0 0 0 [(0, .ref aT), (1, .long v)] [] g n := by
  have hs := hW.slips
  have hl : ∀ k, k ≤ sN S 0 1 → PW zm_X6_followingOf 1 (zE (some (.int (spFo S v (sN S 0 1)))) g n) 0 0 5 [(0, .ref aT), (1, .long v), (3, .int (spFo S v k)), (4, .int (nI k))] [] g n := by
    refine zl_up _ (fun k hk ih => ?_)
    refine pw_iload dX6_followingOf_5 3 rfl ?_
    refine pw_aload_n dX6_followingOf_7 0 rfl rfl ?_
    refine pw_getr 12 zc_X6 (ts_this hM) (by decide) q1998 (Or.inr ⟨_, rfl⟩) (tr_told hM) dX6_followingOf_8 ?_
    refine pw_iconst (v := 1) dX6_followingOf_11 (by decide) ?_
    refine pw_iald 1 rfl (ts_told hM) (by decide) (by decide) dX6_followingOf_12 ?_
    rw [hT.told (k := 1) (by decide)]
    refine pw_icmp_ge_N 51 dX6_followingOf_13 (by decide) (by omega) (by omega) (fun c_13 => ?_) (fun c_13 => ?_)
    · refine pw_iload_n dX6_followingOf_51 2 rfl rfl ?_
      refine pw_iret rfl dX6_followingOf_52 ?_
      exact ⟨by rw [show k = sN S 0 1 by omega], rfl, rfl⟩
    · refine pw_iload_n dX6_followingOf_16 2 rfl rfl ?_
      refine pw_lload_n dX6_followingOf_17 1 rfl rfl ?_
      refine pw_aload_n dX6_followingOf_18 0 rfl rfl ?_
      refine pw_getr 16 zc_X6 (ts_this hM) (by decide) q2002 (Or.inr ⟨_, rfl⟩) (tr_models hM) dX6_followingOf_19 ?_
      refine pw_iload dX6_followingOf_22 3 rfl ?_
      refine pw_lald _ rfl (ts_models hM) (by omega) (by decide) dX6_followingOf_24 ?_
      rw [hT.md (Or.inl c_13)]
      refine pw_ldc2 q1972 dX6_followingOf_25 ?_
      refine pw_lxor dX6_followingOf_28 ?_
      refine pw_land dX6_followingOf_29 ?_
      refine pw_lconst (v := 0) dX6_followingOf_30 rfl ?_
      refine pw_lcmp dX6_followingOf_31 ?_
      refine pw_if_ne_L 42 dX6_followingOf_32 (by decide) (fun c_32 => ?_) (fun c_32 => ?_)
      · refine pw_iconst (v := 0) dX6_followingOf_42 (by decide) ?_
        refine pw_ior dX6_followingOf_43 ?_
        refine pw_istore_n (ls' := [(3, _), (0, _), (1, _), (4, _)]) dX6_followingOf_44 rfl (by decide) rfl ?_
        refine pw_ls [1, 2, 0, 3] (ls' := [(0, _), (1, _), (3, _), (4, _)]) rfl ?_
        refine pw_iinc1 (j := 3) (ls' := [(4, _), (0, _), (1, _), (3, _)]) dX6_followingOf_45 rfl (by decide) rfl ?_
        refine pw_ls [1, 2, 3, 0] (ls' := [(0, _), (1, _), (3, _), (4, _)]) rfl ?_
        refine pw_goto 5 dX6_followingOf_48 (by decide) ?_
        rw [show spFo S v k ||| 0 = spFo S v (k + 1) from by rw [spFo, if_neg c_32]]; exact ih (k + 1) (by omega) (by omega)
      · refine pw_iconst (v := 1) dX6_followingOf_35 (by decide) ?_
        refine pw_iload dX6_followingOf_36 3 rfl ?_
        refine pw_ishl dX6_followingOf_38 ?_
        rw [ishl1 (show k < 32 by omega)]
        refine pw_goto 43 dX6_followingOf_39 (by decide) ?_
        refine pw_ior dX6_followingOf_43 ?_
        refine pw_istore_n (ls' := [(3, _), (0, _), (1, _), (4, _)]) dX6_followingOf_44 rfl (by decide) rfl ?_
        refine pw_ls [1, 2, 0, 3] (ls' := [(0, _), (1, _), (3, _), (4, _)]) rfl ?_
        refine pw_iinc1 (j := 3) (ls' := [(4, _), (0, _), (1, _), (3, _)]) dX6_followingOf_45 rfl (by decide) rfl ?_
        refine pw_ls [1, 2, 3, 0] (ls' := [(0, _), (1, _), (3, _), (4, _)]) rfl ?_
        refine pw_goto 5 dX6_followingOf_48 (by decide) ?_
        rw [show spFo S v k ||| nI (2 ^ k) = spFo S v (k + 1) from by rw [spFo, if_pos c_32]]; exact ih (k + 1) (by omega) (by omega)
  refine pw_iconst (v := 0) dX6_followingOf_0 (by decide) ?_
  refine pw_istore_n (ls' := [(3, _), (0, _), (1, _)]) dX6_followingOf_1 rfl (by decide) rfl ?_
  refine pw_ls [1, 2, 0] (ls' := [(0, _), (1, _), (3, _)]) rfl ?_
  refine pw_iconst (v := 0) dX6_followingOf_2 (by decide) ?_
  refine pw_istore (ls' := [(4, _), (0, _), (1, _), (3, _)]) dX6_followingOf_3 (by decide) rfl ?_
  refine pw_ls [1, 2, 3, 0] (ls' := [(0, _), (1, _), (3, _), (4, _)]) rfl ?_
  exact hl 0 (Nat.zero_le _)
/-- a set that fits, and with no other slip -/
abbrev spWhole (S : zS) (b : Int32) (w : Nat) : Prop := spTog S b w ≠ 0 ∧ ∀ k, k < sN S 0 1 → ib b k = false → spTog S (b ||| nI (2 ^ k)) w = 0
theorem t_isWhole {g : zg_G} {n : zg_N} {S : zS} (hM : TSh g) (hT : TW n S) (hW : WF S) (b : Int32) (w : Nat) (hw : w < 52) : PW zm_X6_isWhole 2 (zE (some (.int (zb (spWhole S b w)))) g n) 0 0 0 [(0, .ref aT), (1, .int b), (2, .int (nI w))] [] g n := by
  have hs := hW.slips
  have hl : spTog S b w ≠ 0 → ∀ k, k ≤ sN S 0 1 → (∀ j, j < k → ib b j = false → spTog S (b ||| nI (2 ^ j)) w = 0) → PW zm_X6_isWhole 2 (zE (some (.int (zb (spWhole S b w)))) g n) 0 0 15 [(0, .ref aT), (1, .int b), (2, .int (nI w)), (3, .int (nI k))] [] g n := by
    intro h0
    refine zl_up _ (fun k hk ih hj => ?_)
    refine pw_iload_n dX6_isWhole_15 3 rfl rfl ?_
    refine pw_aload_n dX6_isWhole_16 0 rfl rfl ?_
    refine pw_getr 12 zc_X6 (ts_this hM) (by decide) q1998 (Or.inr ⟨_, rfl⟩) (tr_told hM) dX6_isWhole_17 ?_
    refine pw_iconst (v := 1) dX6_isWhole_20 (by decide) ?_
    refine pw_iald 1 rfl (ts_told hM) (by decide) (by decide) dX6_isWhole_21 ?_
    rw [hT.told (k := 1) (by decide)]
    refine pw_icmp_ge_N 56 dX6_isWhole_22 (by decide) (by omega) (by omega) (fun c_22 => ?_) (fun c_22 => ?_)
    · refine pw_iconst (v := 1) dX6_isWhole_56 (by decide) ?_
      refine pw_zret _ rfl rfl dX6_isWhole_57 ?_
      exact ⟨by rw [zb_t ⟨h0, fun j h1 h2 => hj j (by omega) h2⟩], rfl, rfl⟩
    · refine pw_iload_n dX6_isWhole_25 1 rfl rfl ?_
      refine pw_iload_n dX6_isWhole_26 3 rfl rfl ?_
      refine pw_ishr dX6_isWhole_27 ?_
      refine pw_iconst (v := 1) dX6_isWhole_28 (by decide) ?_
      refine pw_iand dX6_isWhole_29 ?_
      refine pw_if_ne 50 dX6_isWhole_30 (by decide) (fun c_30 => ?_) (fun c_30 => ?_)
      · refine pw_iinc1 (j := 3) (ls' := [(3, _), (0, _), (1, _), (2, _)]) dX6_isWhole_50 rfl (by decide) rfl ?_
        refine pw_ls [1, 2, 3, 0] (ls' := [(0, _), (1, _), (2, _), (3, _)]) rfl ?_
        refine pw_goto 15 dX6_isWhole_53 (by decide) ?_
        exact ih (k + 1) (by omega) (by omega) (fun j h1 h2 => if h : j = k then absurd ((ib_eq0 (by omega)).mpr (h ▸ h2)) c_30 else hj j (by omega) h2)
      · refine pw_aload_n dX6_isWhole_33 0 rfl rfl ?_
        refine pw_iload_n dX6_isWhole_34 1 rfl rfl ?_
        refine pw_iconst (v := 1) dX6_isWhole_35 (by decide) ?_
        refine pw_iload_n dX6_isWhole_36 3 rfl rfl ?_
        refine pw_ishl dX6_isWhole_37 ?_
        rw [ishl1 (show k < 32 by omega)]
        refine pw_ior dX6_isWhole_38 ?_
        refine pw_iload_n dX6_isWhole_39 2 rfl rfl ?_
        refine pw_callV2 zmM_X6_togetherIn rfl (lw_V q2475 q2477 qs109 q150 q2478) rfl (ts_this hM) zc_X6 (t_togetherIn hM hT hW _ w hw) (by decide) (Nat.le_refl _) (Nat.le_refl _) rfl (Nat.le_of_ble_eq_true rfl) (Nat.le_of_ble_eq_true rfl) dX6_isWhole_40 zE.nx (zE_kk ?_)
        refine pw_lconst (v := 0) dX6_isWhole_43 rfl ?_
        refine pw_lcmp dX6_isWhole_44 ?_
        refine pw_if_eq_L 50 dX6_isWhole_45 (by decide) (fun c_45 => ?_) (fun c_45 => ?_)
        · refine pw_iinc1 (j := 3) (ls' := [(3, _), (0, _), (1, _), (2, _)]) dX6_isWhole_50 rfl (by decide) rfl ?_
          refine pw_ls [1, 2, 3, 0] (ls' := [(0, _), (1, _), (2, _), (3, _)]) rfl ?_
          refine pw_goto 15 dX6_isWhole_53 (by decide) ?_
          exact ih (k + 1) (by omega) (by omega) (fun j h1 h2 => if h : j = k then (by rw [h]; exact c_45) else hj j (by omega) h2)
        · refine pw_iconst (v := 0) dX6_isWhole_48 (by decide) ?_
          refine pw_zret _ rfl rfl dX6_isWhole_49 ?_
          exact ⟨by rw [zb_f (fun h => c_45 (h.2 k c_22 ((ib_eq0 (by omega)).mp c_30)))], rfl, rfl⟩
  refine pw_aload_n dX6_isWhole_0 0 rfl rfl ?_
  refine pw_iload_n dX6_isWhole_1 1 rfl rfl ?_
  refine pw_iload_n dX6_isWhole_2 2 rfl rfl ?_
  refine pw_callV2 zmM_X6_togetherIn rfl (lw_V q2475 q2477 qs109 q150 q2478) rfl (ts_this hM) zc_X6 (t_togetherIn hM hT hW b w hw) (by decide) (Nat.le_refl _) (Nat.le_refl _) rfl (Nat.le_of_ble_eq_true rfl) (Nat.le_of_ble_eq_true rfl) dX6_isWhole_3 zE.nx (zE_kk ?_)
  refine pw_lconst (v := 0) dX6_isWhole_6 rfl ?_
  refine pw_lcmp dX6_isWhole_7 ?_
  refine pw_if_ne_L 13 dX6_isWhole_8 (by decide) (fun c_8 => ?_) (fun c_8 => ?_)
  · refine pw_iconst (v := 0) dX6_isWhole_13 (by decide) ?_
    refine pw_istore_n (ls' := [(3, _), (0, _), (1, _), (2, _)]) dX6_isWhole_14 rfl (by decide) rfl ?_
    refine pw_ls [1, 2, 3, 0] (ls' := [(0, _), (1, _), (2, _), (3, _)]) rfl ?_
    exact hl c_8 0 (Nat.zero_le _) (fun j h => absurd h (Nat.not_lt_zero _))
  · refine pw_iconst (v := 0) dX6_isWhole_11 (by decide) ?_
    refine pw_zret _ rfl rfl dX6_isWhole_12 ?_
    exact ⟨by rw [zb_f (fun h => h.1 c_8)], rfl, rfl⟩

/-! ===== the reference: what is asked of the state ===== -/
/-- refused with this exception and count, or this answer -/
def spNeed (S : zS) (ok : Bool) (what : Int32) (r : Nat) (z : Value) (v : Int32 × Value × zS) : Int32 × Value × zS := if ok = true then v else (what, z, sRef S r)
theorem spNeed_t {S : zS} {ok : Bool} {what : Int32} {r : Nat} {z : Value} {v : Int32 × Value × zS} (h : ok = true) : spNeed S ok what r z v = v := if_pos h
theorem spNeed_f {S : zS} {ok : Bool} {what : Int32} {r : Nat} {z : Value} {v : Int32 × Value × zS} (h : ¬ ok = true) : spNeed S ok what r z v = (what, z, sRef S r) := if_neg h
theorem tQ_eq {g : zg_G} {n : zg_N} {R R' : Int32 × Value × zS} {o : Option Value ⊕ (String × Nat)} {g1 : zg_G} {n1 : zg_N} (h : R' = R) (hq : tQ g n R o g1 n1) : tQ g n R' o g1 n1 := h ▸ hq
def sSet (S : zS) (k v : Nat) : zS := (zu2 S.1 0 k v, S.2)
theorem TW.set {n : zg_N} {S : zS} (hT : TW n S) (hW : WF S) (k v : Nat) (hk : k = 4 ∨ k = 5) : TW (zpai n at_told k (nI v)) (sSet S k v) := by
  obtain ⟨a1, a2, a3, a4, a5, a6, a7, a8, a9, a10, a11⟩ := hT
  have hne : ∀ b j, b ≠ at_told → zai (zpai n at_told k (nI v)) b j = zai n b j := fun b j h => by
    rw [zai_p, if_neg (fun z => h z.1)]
  have hi3 : sN S 0 6 ≤ 3 := hW.imgs
  have e1 : sN (sSet S k v) 0 1 = sN S 0 1 := if_neg (by omega)
  have e2 : sN (sSet S k v) 0 2 = sN S 0 2 := if_neg (by omega)
  have e3 : sN (sSet S k v) 0 3 = sN S 0 3 := if_neg (by omega)
  have e6 : sN (sSet S k v) 0 6 = sN S 0 6 := if_neg (by omega)
  have e7 : sN (sSet S k v) 0 7 = sN S 0 7 := if_neg (by omega)
  have eg : ∀ a j, a ≠ 0 → sN (sSet S k v) a j = sN S a j := fun a j h => if_neg (fun z => h z.1)
  refine ⟨fun j hj => ?_, fun j hj => a2 j (by unfold okb at hj ⊢; rw [e1, e3] at hj; exact hj), fun j hj => ?_, a4, fun j hj => ?_, a6, ?_, ?_, a9, fun j hj => ?_, ?_⟩
  · rw [zai_p]
    show _ = nI (zu2 S.1 0 k v 0 j)
    rw [zu2]
    by_cases h : j = k
    · rw [if_pos ⟨rfl, h⟩, if_pos ⟨rfl, h⟩]
    · rw [if_neg (fun z => h z.2), if_neg (fun z => h z.2)]; exact a1 j hj
  · rw [e2] at hj
    rw [hne _ _ (by decide), eg 1 j (by decide)]; exact a3 j hj
  · rw [hne _ _ (by decide), eg 2 j (by decide)]; exact a5 j hj
  · rw [e6]
    exact ⟨a7.1, fun i hi j hj => by rw [hne _ _ (by show 1058 + 1 + i ≠ 1049; omega), eg (10 + i) j (by omega)]; exact a7.2 i hi j hj⟩
  · rw [e7]
    exact ⟨a8.1, fun j hj => by rw [hne _ _ (by decide), eg 3 j (by decide)]; exact a8.2 j hj⟩
  · rw [hne _ _ (by decide)]; exact a10 j hj
  · obtain ⟨b1, c, N, b2, b3, b4⟩ := a11
    have hw10 := hW.tl
    refine ⟨b1, c, N, b2, fun i hi => ⟨?_, ?_⟩, fun j q hq => ?_⟩
    · rw [hne _ _ (by show 1084 + 1 + i ≠ 1049; omega)]; exact (b3 i hi).1
    · rw [hne _ _ (by show 1084 + 1 + i ≠ 1049; omega)]; exact (b3 i hi).2
    · obtain ⟨i, m, d1, d2, d3, d4, d5⟩ := b4 j q hq
      have hx : at_who + 1 + j ≠ at_told := by show 1062 + 1 + j ≠ 1049; omega
      exact ⟨i, m, d1, (hne _ _ hx).trans d2, (hne _ _ hx).trans d3, (hne _ _ hx).trans d4, d5⟩
theorem WF.set {S : zS} (h : WF S) (k v : Nat) (hk : (k = 4 ∧ v < 2 ^ sN S 0 0) ∨ (k = 5 ∧ v ≤ 4)) : WF (sSet S k v) := by
  have e : ∀ j, j ≠ k → sN (sSet S k v) 0 j = sN S 0 j := fun j hj => if_neg (fun z => hj z.2)
  have ek : sN (sSet S k v) 0 k = v := if_pos ⟨rfl, rfl⟩
  have eg : ∀ a j, a ≠ 0 → sN (sSet S k v) a j = sN S a j := fun a j h => if_neg (fun z => h z.1)
  obtain ⟨⟨b1, b2, b3, b4, b5, b6, b7, b8, b9⟩, c1, c2, c3, c4, c5, c6, c7, c8⟩ := h
  have e0 := e 0 (by omega); have e1 := e 1 (by omega); have e2 := e 2 (by omega); have e3 := e 3 (by omega); have e6 := e 6 (by omega); have e7 := e 7 (by omega)
  refine ⟨⟨by rw [e0]; exact b1, by rw [e0]; exact b2, by rw [e1]; exact b3, by rw [e2]; exact b4, by rw [e3]; exact b5, ?_, ?_, by rw [e6]; exact b8, by rw [e7]; exact b9⟩, fun j hj => ?_, ?_, fun j hj => ?_, fun i hi => ?_, fun j hj => ?_, ?_, c7, c8⟩
  · rw [e0]; rcases hk with ⟨rfl, h⟩ | ⟨rfl, h⟩
    · rw [ek]; exact h
    · rw [e 4 (by decide)]; exact b6
  · rcases hk with ⟨rfl, h⟩ | ⟨rfl, h⟩
    · rw [e 5 (by decide)]; exact b7
    · rw [ek]; exact h
  · rw [e2] at hj; rw [eg 1 j (by decide)]; exact c1 j hj
  · rw [e1]
    exact ⟨fun j hj => by rw [eg 2 j (by decide)]; exact c2.1 j hj, fun j hj => by rw [eg 2 j (by decide)]; exact c2.2.1 j hj, fun i j hi hj => by rw [eg 2 i (by decide), eg 2 j (by decide)]; exact c2.2.2 i j hi hj⟩
  · rw [e7] at hj; rw [eg 3 j (by decide)]; exact c3 j hj
  · rw [e6] at hi
    have := c4 i hi
    rw [e0, e1]
    refine ⟨by rw [eg _ _ (by omega)]; exact this.1, by rw [eg _ _ (by omega)]; exact this.2.1, fun j hj => by rw [eg _ _ (by omega)]; exact this.2.2.1 j hj, fun j hj => ?_, fun x y hx hy => ?_⟩
    · show sN (sSet S k v) (10 + i) (2 + j) < _
      rw [eg _ _ (by omega)]; exact this.2.2.2.1 j hj
    · show sN (sSet S k v) (10 + i) (2 + x) = sN (sSet S k v) (10 + i) (2 + y) → _
      rw [eg _ _ (by omega), eg _ _ (by omega)]; exact this.2.2.2.2 x y hx hy
  · rw [e0]; exact c5 j (by unfold okb at hj ⊢; rw [e1, e3] at hj; exact hj)
  · rw [e0]; exact c6
theorem t_qset {g : zg_G} {n n1 : zg_N} {S : zS} (hT : TW n1 S) (hW : WF S) (hth : zfi n1 aT tf_thrown = 0) (hf : zFr tXF tXA n n1) (v : Value) (k j : Nat) (hk : k = 4 ∨ k = 5) : tQ g n (0, v, sSet S k j) (.inl (some v)) g (zpai n1 at_told k (nI j)) := ⟨rfl, rfl, hT.set hW k j hk, hth, hf.pai (by constructor <;> decide)⟩
theorem WF.refd {S : zS} (h : WF S) (r : Nat) : WF (sRef S r) := h
def sp_fault (S : zS) : Int32 × Value × zS := (0, .int (sI S 1 0), S)
theorem t_fault {g : zg_G} {n : zg_N} {S : zS} (hM : TSh g) (hT : TW n S) (hW : WF S) : PW zm_X6_fault 1 (tQ g n (sp_fault S)) 0 0 0 [(0, .ref aT)] [] g n := by
  refine pw_aload_n dX6_fault_0 0 rfl rfl ?_
  refine pw_iconst (v := 0) dX6_fault_1 (by decide) ?_
  refine pw_puti 0 zc_X6 (ts_this hM) (by decide) (by decide) q1986 rfl (Or.inl rfl) rfl rfl dX6_fault_2 ?_
  obtain ⟨hT0, hth, hf0⟩ := t_start hT hW; generalize zpfi n aT 0 0 = n0 at hT0 hth hf0 ⊢
  refine pw_aload_n dX6_fault_5 0 rfl rfl ?_
  refine pw_geti 3 zc_X6 (ts_this hM) (by decide) q1989 (Or.inl rfl) dX6_fault_6 ?_
  rw [hT0.place]
  refine pw_iret rfl dX6_fault_9 ?_
  exact t_qok hT0 hth hf0 _
def sp_told (S : zS) (x : Int32) : Int32 × Value × zS := spNeed S (inB x 6) 1 1 (.int 0) (0, .int (nI (sN S 0 x.toNatClampNeg)), S)
theorem t_told {g : zg_G} {n : zg_N} {S : zS} (hM : TSh g) (hT : TW n S) (hW : WF S) (x : Int32) : PW zm_X6_told 2 (tQ g n (sp_told S x)) 0 0 0 [(0, .ref aT), (1, .int x)] [] g n := by
  refine pw_aload_n dX6_told_0 0 rfl rfl ?_
  refine pw_iconst (v := 0) dX6_told_1 (by decide) ?_
  refine pw_puti 0 zc_X6 (ts_this hM) (by decide) (by decide) q1986 rfl (Or.inl rfl) rfl rfl dX6_told_2 ?_
  obtain ⟨hT0, hth, hf0⟩ := t_start hT hW; generalize zpfi n aT 0 0 = n0 at hT0 hth hf0 ⊢
  refine pw_aload_n dX6_told_5 0 rfl rfl ?_
  refine pw_iload_n dX6_told_6 1 rfl rfl ?_
  refine pw_iconst (v := 0) dX6_told_7 (by decide) ?_
  refine pw_iconst (v := 5) dX6_told_8 (by decide) ?_
  refine pw_callS3 zmM_X6_in rfl (lw_S q2185 q2186 q150 q2187) (t_in _ _ _ _ _) (by decide) (Nat.le_refl _) (Nat.le_refl _) rfl (Nat.le_of_ble_eq_true rfl) (Nat.le_of_ble_eq_true rfl) dX6_told_9 zE.nx (zE_kk ?_)
  refine pw_if_ne_B 19 dX6_told_12 (by decide) (fun c_12 => ?_) (fun c_12 => ?_)
  · refine pw_iconst (v := 0) dX6_told_19 (by decide) ?_
    refine pw_iconst (v := 1) dX6_told_20 (by decide) ?_
    refine pw_iconst (v := 1) dX6_told_21 (by decide) ?_
    refine pw_callV3 zmM_X6_bad rfl (lw_V q2188 q2190 qs62 q150 q2191) rfl (ts_this hM) zc_X6 (t_bad0 hM 1 (by decide) 1 (by decide) hth) (by decide) (Nat.le_refl _) (Nat.le_refl _) rfl (Nat.le_of_ble_eq_true rfl) (Nat.le_of_ble_eq_true rfl) dX6_told_22 zE.nx (zE_kk ?_)
    refine pw_if_eq 30 dX6_told_25 (by decide) (fun c_25 => ?_) (fun c_25 => ?_)
    · obtain ⟨j, hj, rfl⟩ := inB_ex (by decide) ((inB_le (m := 5) (by decide)).mpr c_12)
      refine pw_aload_n dX6_told_30 0 rfl rfl ?_
      refine pw_getr 12 zc_X6 (ts_this hM) (by decide) q1998 (Or.inr ⟨_, rfl⟩) (tr_told hM) dX6_told_31 ?_
      refine pw_iload_n dX6_told_34 1 rfl rfl ?_
      refine pw_iald _ rfl (ts_told hM) (by omega) (by decide) dX6_told_35 ?_
      rw [hT0.told hj]
      refine pw_iret rfl dX6_told_36 ?_
      exact tQ_eq ((spNeed_t (inB_nI hj (by decide))).trans (by rw [nI_clamp (by omega)])) (t_qok hT0 hth hf0 _)
    · exact absurd rfl c_25
  · refine pw_iconst (v := 1) dX6_told_15 (by decide) ?_
    refine pw_goto 20 dX6_told_16 (by decide) ?_
    refine pw_iconst (v := 1) dX6_told_20 (by decide) ?_
    refine pw_iconst (v := 1) dX6_told_21 (by decide) ?_
    refine pw_callV3 zmM_X6_bad rfl (lw_V q2188 q2190 qs62 q150 q2191) rfl (ts_this hM) zc_X6 (t_bad1 hM 1 (by decide) 1 (by decide) hth) (by decide) (Nat.le_refl _) (Nat.le_refl _) rfl (Nat.le_of_ble_eq_true rfl) (Nat.le_of_ble_eq_true rfl) dX6_told_22 zE.nx (zE_kk ?_)
    refine pw_if_eq 30 dX6_told_25 (by decide) (fun c_25 => ?_) (fun c_25 => ?_)
    · exact absurd c_25 (by decide)
    · refine pw_iconst (v := 0) dX6_told_28 (by decide) ?_
      refine pw_iret rfl dX6_told_29 ?_
      exact tQ_eq (spNeed_f (fun h => c_12 ((inB_le (m := 5) (by decide)).mp h))) (t_qbad hT0 hW hf0 1 1 (by decide) _)
def sp_models (S : zS) (x : Int32) : Int32 × Value × zS := spNeed S (inB x (sN S 0 1)) 1 0 (.long 0) (0, .long (sL S 0 x.toNatClampNeg), S)
theorem t_models {g : zg_G} {n : zg_N} {S : zS} (hM : TSh g) (hT : TW n S) (hW : WF S) (x : Int32) : PW zm_X6_models 3 (tQ g n (sp_models S x)) 0 0 0 [(0, .ref aT), (1, .int x)] [] g n := by
  have hs := hW.slips
  refine pw_aload_n dX6_models_0 0 rfl rfl ?_
  refine pw_iconst (v := 0) dX6_models_1 (by decide) ?_
  refine pw_puti 0 zc_X6 (ts_this hM) (by decide) (by decide) q1986 rfl (Or.inl rfl) rfl rfl dX6_models_2 ?_
  obtain ⟨hT0, hth, hf0⟩ := t_start hT hW; generalize zpfi n aT 0 0 = n0 at hT0 hth hf0 ⊢
  refine pw_aload_n dX6_models_5 0 rfl rfl ?_
  refine pw_aload_n dX6_models_6 0 rfl rfl ?_
  refine pw_iload_n dX6_models_7 1 rfl rfl ?_
  refine pw_callV1 zmM_X6_isSlip rfl (lw_V q2336 q2338 qs90 q150 q2339) rfl (ts_this hM) zc_X6 (t_isSlip hM hT0 hW x) (by decide) (Nat.le_refl _) (Nat.le_refl _) rfl (Nat.le_of_ble_eq_true rfl) (Nat.le_of_ble_eq_true rfl) dX6_models_8 zE.nx (zE_kk ?_)
  refine pw_if_ne_B 18 dX6_models_11 (by decide) (fun c_11 => ?_) (fun c_11 => ?_)
  · refine pw_iconst (v := 0) dX6_models_18 (by decide) ?_
    refine pw_iconst (v := 1) dX6_models_19 (by decide) ?_
    refine pw_iconst (v := 0) dX6_models_20 (by decide) ?_
    refine pw_callV3 zmM_X6_bad rfl (lw_V q2188 q2190 qs62 q150 q2191) rfl (ts_this hM) zc_X6 (t_bad0 hM 1 (by decide) 0 (by decide) hth) (by decide) (Nat.le_refl _) (Nat.le_refl _) rfl (Nat.le_of_ble_eq_true rfl) (Nat.le_of_ble_eq_true rfl) dX6_models_21 zE.nx (zE_kk ?_)
    refine pw_if_eq 29 dX6_models_24 (by decide) (fun c_24 => ?_) (fun c_24 => ?_)
    · obtain ⟨j, hj, rfl⟩ := inB_ex (by omega) c_11
      refine pw_aload_n dX6_models_29 0 rfl rfl ?_
      refine pw_getr 16 zc_X6 (ts_this hM) (by decide) q2002 (Or.inr ⟨_, rfl⟩) (tr_models hM) dX6_models_30 ?_
      refine pw_iload_n dX6_models_33 1 rfl rfl ?_
      refine pw_lald _ rfl (ts_models hM) (by omega) (by decide) dX6_models_34 ?_
      rw [hT0.md (Or.inl hj)]
      refine pw_lret rfl dX6_models_35 ?_
      exact tQ_eq ((spNeed_t c_11).trans (by rw [nI_clamp (by omega)])) (t_qok hT0 hth hf0 _)
    · exact absurd rfl c_24
  · refine pw_iconst (v := 1) dX6_models_14 (by decide) ?_
    refine pw_goto 19 dX6_models_15 (by decide) ?_
    refine pw_iconst (v := 1) dX6_models_19 (by decide) ?_
    refine pw_iconst (v := 0) dX6_models_20 (by decide) ?_
    refine pw_callV3 zmM_X6_bad rfl (lw_V q2188 q2190 qs62 q150 q2191) rfl (ts_this hM) zc_X6 (t_bad1 hM 1 (by decide) 0 (by decide) hth) (by decide) (Nat.le_refl _) (Nat.le_refl _) rfl (Nat.le_of_ble_eq_true rfl) (Nat.le_of_ble_eq_true rfl) dX6_models_21 zE.nx (zE_kk ?_)
    refine pw_if_eq 29 dX6_models_24 (by decide) (fun c_24 => ?_) (fun c_24 => ?_)
    · exact absurd c_24 (by decide)
    · refine pw_lconst (v := 0) dX6_models_27 rfl ?_
      refine pw_lret rfl dX6_models_28 ?_
      exact tQ_eq (spNeed_f c_11) (t_qbad hT0 hW hf0 1 0 (by decide) _)
def sp_seen (S : zS) (x : Int32) : Int32 × Value × zS := spNeed S (inB x (sN S 0 2)) 1 0 (.long 0) (0, .long (sL S 1 x.toNatClampNeg), S)
theorem t_seen {g : zg_G} {n : zg_N} {S : zS} (hM : TSh g) (hT : TW n S) (hW : WF S) (x : Int32) : PW zm_X6_seen 2 (tQ g n (sp_seen S x)) 0 0 0 [(0, .ref aT), (1, .int x)] [] g n := by
  have hs := hW.sees
  refine pw_aload_n dX6_seen_0 0 rfl rfl ?_
  refine pw_iconst (v := 0) dX6_seen_1 (by decide) ?_
  refine pw_puti 0 zc_X6 (ts_this hM) (by decide) (by decide) q1986 rfl (Or.inl rfl) rfl rfl dX6_seen_2 ?_
  obtain ⟨hT0, hth, hf0⟩ := t_start hT hW; generalize zpfi n aT 0 0 = n0 at hT0 hth hf0 ⊢
  refine pw_aload_n dX6_seen_5 0 rfl rfl ?_
  refine pw_iload_n dX6_seen_6 1 rfl rfl ?_
  refine pw_iconst (v := 0) dX6_seen_7 (by decide) ?_
  refine pw_aload_n dX6_seen_8 0 rfl rfl ?_
  refine pw_getr 12 zc_X6 (ts_this hM) (by decide) q1998 (Or.inr ⟨_, rfl⟩) (tr_told hM) dX6_seen_9 ?_
  refine pw_iconst (v := 2) dX6_seen_12 (by decide) ?_
  refine pw_iald 2 rfl (ts_told hM) (by decide) (by decide) dX6_seen_13 ?_
  rw [hT0.told (k := 2) (by decide)]
  refine pw_iconst (v := 1) dX6_seen_14 (by decide) ?_
  refine pw_isub dX6_seen_15 ?_
  refine pw_callS3 zmM_X6_in rfl (lw_S q2185 q2186 q150 q2187) (t_in _ _ _ _ _) (by decide) (Nat.le_refl _) (Nat.le_refl _) rfl (Nat.le_of_ble_eq_true rfl) (Nat.le_of_ble_eq_true rfl) dX6_seen_16 zE.nx (zE_kk ?_)
  refine pw_if_ne_B 26 dX6_seen_19 (by decide) (fun c_19 => ?_) (fun c_19 => ?_)
  · refine pw_iconst (v := 0) dX6_seen_26 (by decide) ?_
    refine pw_iconst (v := 1) dX6_seen_27 (by decide) ?_
    refine pw_iconst (v := 0) dX6_seen_28 (by decide) ?_
    refine pw_callV3 zmM_X6_bad rfl (lw_V q2188 q2190 qs62 q150 q2191) rfl (ts_this hM) zc_X6 (t_bad0 hM 1 (by decide) 0 (by decide) hth) (by decide) (Nat.le_refl _) (Nat.le_refl _) rfl (Nat.le_of_ble_eq_true rfl) (Nat.le_of_ble_eq_true rfl) dX6_seen_29 zE.nx (zE_kk ?_)
    refine pw_if_eq 37 dX6_seen_32 (by decide) (fun c_32 => ?_) (fun c_32 => ?_)
    · have c_9 := (inB_m1 (by omega)).mpr c_19; obtain ⟨j, hj, rfl⟩ := inB_ex (by omega) c_9
      refine pw_aload_n dX6_seen_37 0 rfl rfl ?_
      refine pw_getr 18 zc_X6 (ts_this hM) (by decide) q2004 (Or.inr ⟨_, rfl⟩) (tr_seen hM) dX6_seen_38 ?_
      refine pw_iload_n dX6_seen_41 1 rfl rfl ?_
      refine pw_lald _ rfl (ts_seen hM) (by omega) (by decide) dX6_seen_42 ?_
      rw [hT0.sm hj]
      refine pw_lret rfl dX6_seen_43 ?_
      exact tQ_eq ((spNeed_t c_9).trans (by rw [nI_clamp (by omega)])) (t_qok hT0 hth hf0 _)
    · exact absurd rfl c_32
  · refine pw_iconst (v := 1) dX6_seen_22 (by decide) ?_
    refine pw_goto 27 dX6_seen_23 (by decide) ?_
    refine pw_iconst (v := 1) dX6_seen_27 (by decide) ?_
    refine pw_iconst (v := 0) dX6_seen_28 (by decide) ?_
    refine pw_callV3 zmM_X6_bad rfl (lw_V q2188 q2190 qs62 q150 q2191) rfl (ts_this hM) zc_X6 (t_bad1 hM 1 (by decide) 0 (by decide) hth) (by decide) (Nat.le_refl _) (Nat.le_refl _) rfl (Nat.le_of_ble_eq_true rfl) (Nat.le_of_ble_eq_true rfl) dX6_seen_29 zE.nx (zE_kk ?_)
    refine pw_if_eq 37 dX6_seen_32 (by decide) (fun c_32 => ?_) (fun c_32 => ?_)
    · exact absurd c_32 (by decide)
    · refine pw_lconst (v := 0) dX6_seen_35 rfl ?_
      refine pw_lret rfl dX6_seen_36 ?_
      exact tQ_eq (spNeed_f (fun h => c_19 ((inB_m1 (by omega)).mp h))) (t_qbad hT0 hW hf0 1 0 (by decide) _)
def sp_left (S : zS) (x : Int32) : Int32 × Value × zS := spNeed S (inB x 52) 1 1 (.long 0) (0, .long (sL S 2 x.toNatClampNeg), S)
theorem t_left {g : zg_G} {n : zg_N} {S : zS} (hM : TSh g) (hT : TW n S) (hW : WF S) (x : Int32) : PW zm_X6_left 3 (tQ g n (sp_left S x)) 0 0 0 [(0, .ref aT), (1, .int x)] [] g n := by
  refine pw_aload_n dX6_left_0 0 rfl rfl ?_
  refine pw_iconst (v := 0) dX6_left_1 (by decide) ?_
  refine pw_puti 0 zc_X6 (ts_this hM) (by decide) (by decide) q1986 rfl (Or.inl rfl) rfl rfl dX6_left_2 ?_
  obtain ⟨hT0, hth, hf0⟩ := t_start hT hW; generalize zpfi n aT 0 0 = n0 at hT0 hth hf0 ⊢
  refine pw_aload_n dX6_left_5 0 rfl rfl ?_
  refine pw_iload_n dX6_left_6 1 rfl rfl ?_
  refine pw_callS1 zmM_X6_isWeek rfl (lw_S q2348 q2349 q150 q2350) (t_isWeek x _ _) (by decide) (Nat.le_refl _) (Nat.le_refl _) rfl (Nat.le_of_ble_eq_true rfl) (Nat.le_of_ble_eq_true rfl) dX6_left_7 zE.nx (zE_kk ?_)
  refine pw_if_ne_B 17 dX6_left_10 (by decide) (fun c_10 => ?_) (fun c_10 => ?_)
  · refine pw_iconst (v := 0) dX6_left_17 (by decide) ?_
    refine pw_iconst (v := 1) dX6_left_18 (by decide) ?_
    refine pw_iconst (v := 1) dX6_left_19 (by decide) ?_
    refine pw_callV3 zmM_X6_bad rfl (lw_V q2188 q2190 qs62 q150 q2191) rfl (ts_this hM) zc_X6 (t_bad0 hM 1 (by decide) 1 (by decide) hth) (by decide) (Nat.le_refl _) (Nat.le_refl _) rfl (Nat.le_of_ble_eq_true rfl) (Nat.le_of_ble_eq_true rfl) dX6_left_20 zE.nx (zE_kk ?_)
    refine pw_if_eq 28 dX6_left_23 (by decide) (fun c_23 => ?_) (fun c_23 => ?_)
    · obtain ⟨j, hj, rfl⟩ := inB_ex (by omega) c_10
      refine pw_aload_n dX6_left_28 0 rfl rfl ?_
      refine pw_getr 19 zc_X6 (ts_this hM) (by decide) q2005 (Or.inr ⟨_, rfl⟩) (tr_leftIn hM) dX6_left_29 ?_
      refine pw_iload_n dX6_left_32 1 rfl rfl ?_
      refine pw_lald _ rfl (ts_leftIn hM) (by omega) (by decide) dX6_left_33 ?_
      rw [hT0.lf hj]
      refine pw_lret rfl dX6_left_34 ?_
      exact tQ_eq ((spNeed_t c_10).trans (by rw [nI_clamp (by omega)])) (t_qok hT0 hth hf0 _)
    · exact absurd rfl c_23
  · refine pw_iconst (v := 1) dX6_left_13 (by decide) ?_
    refine pw_goto 18 dX6_left_14 (by decide) ?_
    refine pw_iconst (v := 1) dX6_left_18 (by decide) ?_
    refine pw_iconst (v := 1) dX6_left_19 (by decide) ?_
    refine pw_callV3 zmM_X6_bad rfl (lw_V q2188 q2190 qs62 q150 q2191) rfl (ts_this hM) zc_X6 (t_bad1 hM 1 (by decide) 1 (by decide) hth) (by decide) (Nat.le_refl _) (Nat.le_refl _) rfl (Nat.le_of_ble_eq_true rfl) (Nat.le_of_ble_eq_true rfl) dX6_left_20 zE.nx (zE_kk ?_)
    refine pw_if_eq 28 dX6_left_23 (by decide) (fun c_23 => ?_) (fun c_23 => ?_)
    · exact absurd c_23 (by decide)
    · refine pw_lconst (v := 0) dX6_left_26 rfl ?_
      refine pw_lret rfl dX6_left_27 ?_
      exact tQ_eq (spNeed_f c_10) (t_qbad hT0 hW hf0 1 1 (by decide) _)
def spKin (a b : Int64) : Nat := if a = b then 0 else if a &&& b = a then 1 else if a &&& b = b then 2 else if a &&& b = 0 then 3 else 4
def sp_kin (S : zS) (x y : Int32) : Int32 × Value × zS := spNeed S (inB x (sN S 0 1) && inB y (sN S 0 1)) 1 0 (.int 0) (0, .int (nI (spKin (sL S 0 x.toNatClampNeg) (sL S 0 y.toNatClampNeg))), S)
theorem t_kin {g : zg_G} {n : zg_N} {S : zS} (hM : TSh g) (hT : TW n S) (hW : WF S) (x y : Int32) : PW zm_X6_kin 3 (tQ g n (sp_kin S x y)) 0 0 0 [(0, .ref aT), (1, .int x), (2, .int y)] [] g n := by
  have hs := hW.slips
  refine pw_aload_n dX6_kin_0 0 rfl rfl ?_
  refine pw_iconst (v := 0) dX6_kin_1 (by decide) ?_
  refine pw_puti 0 zc_X6 (ts_this hM) (by decide) (by decide) q1986 rfl (Or.inl rfl) rfl rfl dX6_kin_2 ?_
  obtain ⟨hT0, hth, hf0⟩ := t_start hT hW; generalize zpfi n aT 0 0 = n0 at hT0 hth hf0 ⊢
  refine pw_aload_n dX6_kin_5 0 rfl rfl ?_
  refine pw_aload_n dX6_kin_6 0 rfl rfl ?_
  refine pw_iload_n dX6_kin_7 1 rfl rfl ?_
  refine pw_callV1 zmM_X6_isSlip rfl (lw_V q2336 q2338 qs90 q150 q2339) rfl (ts_this hM) zc_X6 (t_isSlip hM hT0 hW x) (by decide) (Nat.le_refl _) (Nat.le_refl _) rfl (Nat.le_of_ble_eq_true rfl) (Nat.le_of_ble_eq_true rfl) dX6_kin_8 zE.nx (zE_kk ?_)
  refine pw_if_eq_B 22 dX6_kin_11 (by decide) (fun c_11 => ?_) (fun c_11 => ?_)
  · refine pw_iconst (v := 1) dX6_kin_22 (by decide) ?_
    refine pw_goto 27 dX6_kin_23 (by decide) ?_
    refine pw_iconst (v := 1) dX6_kin_27 (by decide) ?_
    refine pw_iconst (v := 0) dX6_kin_28 (by decide) ?_
    refine pw_callV3 zmM_X6_bad rfl (lw_V q2188 q2190 qs62 q150 q2191) rfl (ts_this hM) zc_X6 (t_bad1 hM 1 (by decide) 0 (by decide) hth) (by decide) (Nat.le_refl _) (Nat.le_refl _) rfl (Nat.le_of_ble_eq_true rfl) (Nat.le_of_ble_eq_true rfl) dX6_kin_29 zE.nx (zE_kk ?_)
    refine pw_if_eq 37 dX6_kin_32 (by decide) (fun c_32 => ?_) (fun c_32 => ?_)
    · exact absurd c_32 (by decide)
    · refine pw_iconst (v := 0) dX6_kin_35 (by decide) ?_
      refine pw_iret rfl dX6_kin_36 ?_
      exact tQ_eq (spNeed_f (fun h => c_11 (by simp only [Bool.and_eq_true] at h; exact h.1))) (t_qbad hT0 hW hf0 1 0 (by decide) _)
  · refine pw_aload_n dX6_kin_14 0 rfl rfl ?_
    refine pw_iload_n dX6_kin_15 2 rfl rfl ?_
    refine pw_callV1 zmM_X6_isSlip rfl (lw_V q2336 q2338 qs90 q150 q2339) rfl (ts_this hM) zc_X6 (t_isSlip hM hT0 hW y) (by decide) (Nat.le_refl _) (Nat.le_refl _) rfl (Nat.le_of_ble_eq_true rfl) (Nat.le_of_ble_eq_true rfl) dX6_kin_16 zE.nx (zE_kk ?_)
    refine pw_if_ne_B 26 dX6_kin_19 (by decide) (fun c_19 => ?_) (fun c_19 => ?_)
    · refine pw_iconst (v := 0) dX6_kin_26 (by decide) ?_
      refine pw_iconst (v := 1) dX6_kin_27 (by decide) ?_
      refine pw_iconst (v := 0) dX6_kin_28 (by decide) ?_
      refine pw_callV3 zmM_X6_bad rfl (lw_V q2188 q2190 qs62 q150 q2191) rfl (ts_this hM) zc_X6 (t_bad0 hM 1 (by decide) 0 (by decide) hth) (by decide) (Nat.le_refl _) (Nat.le_refl _) rfl (Nat.le_of_ble_eq_true rfl) (Nat.le_of_ble_eq_true rfl) dX6_kin_29 zE.nx (zE_kk ?_)
      refine pw_if_eq 37 dX6_kin_32 (by decide) (fun c_32 => ?_) (fun c_32 => ?_)
      · have hok : (inB x (sN S 0 1) && inB y (sN S 0 1)) = true := by rw [c_11, c_19]; rfl
        obtain ⟨i, hi, rfl⟩ := inB_ex (by omega) c_11
        obtain ⟨j, hj, rfl⟩ := inB_ex (by omega) c_19
        have hcl : sp_kin S (nI i) (nI j) = (0, .int (nI (spKin (sL S 0 i) (sL S 0 j))), S) := (spNeed_t hok).trans (by rw [nI_clamp (by omega), nI_clamp (by omega)])
        rw [hcl]
        refine pw_aload_n dX6_kin_37 0 rfl rfl ?_
        refine pw_getr 16 zc_X6 (ts_this hM) (by decide) q2002 (Or.inr ⟨_, rfl⟩) (tr_models hM) dX6_kin_38 ?_
        refine pw_iload_n dX6_kin_41 1 rfl rfl ?_
        refine pw_lald _ rfl (ts_models hM) (by omega) (by decide) dX6_kin_42 ?_
        rw [hT0.md (Or.inl hi)]
        refine pw_aload_n dX6_kin_43 0 rfl rfl ?_
        refine pw_getr 16 zc_X6 (ts_this hM) (by decide) q2002 (Or.inr ⟨_, rfl⟩) (tr_models hM) dX6_kin_44 ?_
        refine pw_iload_n dX6_kin_47 2 rfl rfl ?_
        refine pw_lald _ rfl (ts_models hM) (by omega) (by decide) dX6_kin_48 ?_
        rw [hT0.md (Or.inl hj)]
        refine pw_land dX6_kin_49 ?_
        refine pw_lstore_n (ls' := [(3, _), (0, _), (1, _), (2, _)]) dX6_kin_50 rfl (by decide) rfl ?_
        refine pw_ls [1, 2, 3, 0] (ls' := [(0, _), (1, _), (2, _), (3, _)]) rfl ?_
        refine pw_aload_n dX6_kin_51 0 rfl rfl ?_
        refine pw_getr 16 zc_X6 (ts_this hM) (by decide) q2002 (Or.inr ⟨_, rfl⟩) (tr_models hM) dX6_kin_52 ?_
        refine pw_iload_n dX6_kin_55 1 rfl rfl ?_
        refine pw_lald _ rfl (ts_models hM) (by omega) (by decide) dX6_kin_56 ?_
        rw [hT0.md (Or.inl hi)]
        refine pw_aload_n dX6_kin_57 0 rfl rfl ?_
        refine pw_getr 16 zc_X6 (ts_this hM) (by decide) q2002 (Or.inr ⟨_, rfl⟩) (tr_models hM) dX6_kin_58 ?_
        refine pw_iload_n dX6_kin_61 2 rfl rfl ?_
        refine pw_lald _ rfl (ts_models hM) (by omega) (by decide) dX6_kin_62 ?_
        rw [hT0.md (Or.inl hj)]
        refine pw_lcmp dX6_kin_63 ?_
        refine pw_if_ne_L 71 dX6_kin_64 (by decide) (fun c_64 => ?_) (fun c_64 => ?_)
        · refine pw_lload_n dX6_kin_71 3 rfl rfl ?_
          refine pw_aload_n dX6_kin_72 0 rfl rfl ?_
          refine pw_getr 16 zc_X6 (ts_this hM) (by decide) q2002 (Or.inr ⟨_, rfl⟩) (tr_models hM) dX6_kin_73 ?_
          refine pw_iload_n dX6_kin_76 1 rfl rfl ?_
          refine pw_lald _ rfl (ts_models hM) (by omega) (by decide) dX6_kin_77 ?_
          rw [hT0.md (Or.inl hi)]
          refine pw_lcmp dX6_kin_78 ?_
          refine pw_if_ne_L 86 dX6_kin_79 (by decide) (fun c_79 => ?_) (fun c_79 => ?_)
          · refine pw_lload_n dX6_kin_86 3 rfl rfl ?_
            refine pw_aload_n dX6_kin_87 0 rfl rfl ?_
            refine pw_getr 16 zc_X6 (ts_this hM) (by decide) q2002 (Or.inr ⟨_, rfl⟩) (tr_models hM) dX6_kin_88 ?_
            refine pw_iload_n dX6_kin_91 2 rfl rfl ?_
            refine pw_lald _ rfl (ts_models hM) (by omega) (by decide) dX6_kin_92 ?_
            rw [hT0.md (Or.inl hj)]
            refine pw_lcmp dX6_kin_93 ?_
            refine pw_if_ne_L 101 dX6_kin_94 (by decide) (fun c_94 => ?_) (fun c_94 => ?_)
            · refine pw_lload_n dX6_kin_101 3 rfl rfl ?_
              refine pw_lconst (v := 0) dX6_kin_102 rfl ?_
              refine pw_lcmp dX6_kin_103 ?_
              refine pw_if_ne_L 111 dX6_kin_104 (by decide) (fun c_104 => ?_) (fun c_104 => ?_)
              · refine pw_iconst (v := 4) dX6_kin_111 (by decide) ?_
                refine pw_iret rfl dX6_kin_112 ?_
                exact tQ_eq (by rw [spKin, if_neg c_64, if_neg c_79, if_neg c_94, if_neg c_104]; rfl) (t_qok hT0 hth hf0 _)
              · refine pw_iconst (v := 3) dX6_kin_107 (by decide) ?_
                refine pw_goto 112 dX6_kin_108 (by decide) ?_
                refine pw_iret rfl dX6_kin_112 ?_
                exact tQ_eq (by rw [spKin, if_neg c_64, if_neg c_79, if_neg c_94, if_pos c_104]; rfl) (t_qok hT0 hth hf0 _)
            · refine pw_iconst (v := 2) dX6_kin_97 (by decide) ?_
              refine pw_goto 112 dX6_kin_98 (by decide) ?_
              refine pw_iret rfl dX6_kin_112 ?_
              exact tQ_eq (by rw [spKin, if_neg c_64, if_neg c_79, if_pos c_94]; rfl) (t_qok hT0 hth hf0 _)
          · refine pw_iconst (v := 1) dX6_kin_82 (by decide) ?_
            refine pw_goto 112 dX6_kin_83 (by decide) ?_
            refine pw_iret rfl dX6_kin_112 ?_
            exact tQ_eq (by rw [spKin, if_neg c_64, if_pos c_79]; rfl) (t_qok hT0 hth hf0 _)
        · refine pw_iconst (v := 0) dX6_kin_67 (by decide) ?_
          refine pw_goto 112 dX6_kin_68 (by decide) ?_
          refine pw_iret rfl dX6_kin_112 ?_
          exact tQ_eq (by rw [spKin, if_pos c_64]; rfl) (t_qok hT0 hth hf0 _)
      · exact absurd rfl c_32
    · refine pw_iconst (v := 1) dX6_kin_22 (by decide) ?_
      refine pw_goto 27 dX6_kin_23 (by decide) ?_
      refine pw_iconst (v := 1) dX6_kin_27 (by decide) ?_
      refine pw_iconst (v := 0) dX6_kin_28 (by decide) ?_
      refine pw_callV3 zmM_X6_bad rfl (lw_V q2188 q2190 qs62 q150 q2191) rfl (ts_this hM) zc_X6 (t_bad1 hM 1 (by decide) 0 (by decide) hth) (by decide) (Nat.le_refl _) (Nat.le_refl _) rfl (Nat.le_of_ble_eq_true rfl) (Nat.le_of_ble_eq_true rfl) dX6_kin_29 zE.nx (zE_kk ?_)
      refine pw_if_eq 37 dX6_kin_32 (by decide) (fun c_32 => ?_) (fun c_32 => ?_)
      · exact absurd c_32 (by decide)
      · refine pw_iconst (v := 0) dX6_kin_35 (by decide) ?_
        refine pw_iret rfl dX6_kin_36 ?_
        exact tQ_eq (spNeed_f (fun h => c_19 (by simp only [Bool.and_eq_true] at h; exact h.2))) (t_qbad hT0 hW hf0 1 0 (by decide) _)
def sp_fallOut (S : zS) (x y w : Int32) : Int32 × Value × zS := spNeed S (inB x (sN S 0 1) && inB y (sN S 0 1)) 1 0 (.int 0) (spNeed S (inB w 52) 2 1 (.int 0) (0, .int (zb (spFalls S x.toNatClampNeg y.toNatClampNeg w.toNatClampNeg)), S))
theorem t_fallOut {g : zg_G} {n : zg_N} {S : zS} (hM : TSh g) (hT : TW n S) (hW : WF S) (x y w : Int32) : PW zm_X6_fallOut 3 (tQ g n (sp_fallOut S x y w)) 0 0 0 [(0, .ref aT), (1, .int x), (2, .int y), (3, .int w)] [] g n := by
  have hs := hW.slips
  refine pw_aload_n dX6_fallOut_0 0 rfl rfl ?_
  refine pw_iconst (v := 0) dX6_fallOut_1 (by decide) ?_
  refine pw_puti 0 zc_X6 (ts_this hM) (by decide) (by decide) q1986 rfl (Or.inl rfl) rfl rfl dX6_fallOut_2 ?_
  obtain ⟨hT0, hth, hf0⟩ := t_start hT hW; generalize zpfi n aT 0 0 = n0 at hT0 hth hf0 ⊢
  refine pw_aload_n dX6_fallOut_5 0 rfl rfl ?_
  refine pw_aload_n dX6_fallOut_6 0 rfl rfl ?_
  refine pw_iload_n dX6_fallOut_7 1 rfl rfl ?_
  refine pw_callV1 zmM_X6_isSlip rfl (lw_V q2336 q2338 qs90 q150 q2339) rfl (ts_this hM) zc_X6 (t_isSlip hM hT0 hW x) (by decide) (Nat.le_refl _) (Nat.le_refl _) rfl (Nat.le_of_ble_eq_true rfl) (Nat.le_of_ble_eq_true rfl) dX6_fallOut_8 zE.nx (zE_kk ?_)
  refine pw_if_eq_B 22 dX6_fallOut_11 (by decide) (fun c_11 => ?_) (fun c_11 => ?_)
  · refine pw_iconst (v := 1) dX6_fallOut_22 (by decide) ?_
    refine pw_goto 27 dX6_fallOut_23 (by decide) ?_
    refine pw_iconst (v := 1) dX6_fallOut_27 (by decide) ?_
    refine pw_iconst (v := 0) dX6_fallOut_28 (by decide) ?_
    refine pw_callV3 zmM_X6_bad rfl (lw_V q2188 q2190 qs62 q150 q2191) rfl (ts_this hM) zc_X6 (t_bad1 hM 1 (by decide) 0 (by decide) hth) (by decide) (Nat.le_refl _) (Nat.le_refl _) rfl (Nat.le_of_ble_eq_true rfl) (Nat.le_of_ble_eq_true rfl) dX6_fallOut_29 zE.nx (zE_kk ?_)
    refine pw_if_ne 56 dX6_fallOut_32 (by decide) (fun c_32 => ?_) (fun c_32 => ?_)
    · refine pw_iconst (v := 0) dX6_fallOut_56 (by decide) ?_
      refine pw_zret _ rfl rfl dX6_fallOut_57 ?_
      exact tQ_eq (spNeed_f (fun h => c_11 (by simp only [Bool.and_eq_true] at h; exact h.1))) (t_qbad hT0 hW hf0 1 0 (by decide) _)
    · exact absurd c_32 (by decide)
  · refine pw_aload_n dX6_fallOut_14 0 rfl rfl ?_
    refine pw_iload_n dX6_fallOut_15 2 rfl rfl ?_
    refine pw_callV1 zmM_X6_isSlip rfl (lw_V q2336 q2338 qs90 q150 q2339) rfl (ts_this hM) zc_X6 (t_isSlip hM hT0 hW y) (by decide) (Nat.le_refl _) (Nat.le_refl _) rfl (Nat.le_of_ble_eq_true rfl) (Nat.le_of_ble_eq_true rfl) dX6_fallOut_16 zE.nx (zE_kk ?_)
    refine pw_if_ne_B 26 dX6_fallOut_19 (by decide) (fun c_19 => ?_) (fun c_19 => ?_)
    · refine pw_iconst (v := 0) dX6_fallOut_26 (by decide) ?_
      refine pw_iconst (v := 1) dX6_fallOut_27 (by decide) ?_
      refine pw_iconst (v := 0) dX6_fallOut_28 (by decide) ?_
      refine pw_callV3 zmM_X6_bad rfl (lw_V q2188 q2190 qs62 q150 q2191) rfl (ts_this hM) zc_X6 (t_bad0 hM 1 (by decide) 0 (by decide) hth) (by decide) (Nat.le_refl _) (Nat.le_refl _) rfl (Nat.le_of_ble_eq_true rfl) (Nat.le_of_ble_eq_true rfl) dX6_fallOut_29 zE.nx (zE_kk ?_)
      refine pw_if_ne 56 dX6_fallOut_32 (by decide) (fun c_32 => ?_) (fun c_32 => ?_)
      · exact absurd rfl c_32
      · have hok : (inB x (sN S 0 1) && inB y (sN S 0 1)) = true := by rw [c_11, c_19]; rfl
        refine pw_aload_n dX6_fallOut_35 0 rfl rfl ?_
        refine pw_iload_n dX6_fallOut_36 3 rfl rfl ?_
        refine pw_callS1 zmM_X6_isWeek rfl (lw_S q2348 q2349 q150 q2350) (t_isWeek w _ _) (by decide) (Nat.le_refl _) (Nat.le_refl _) rfl (Nat.le_of_ble_eq_true rfl) (Nat.le_of_ble_eq_true rfl) dX6_fallOut_37 zE.nx (zE_kk ?_)
        refine pw_if_ne_B 47 dX6_fallOut_40 (by decide) (fun c_40 => ?_) (fun c_40 => ?_)
        · refine pw_iconst (v := 0) dX6_fallOut_47 (by decide) ?_
          refine pw_iconst (v := 2) dX6_fallOut_48 (by decide) ?_
          refine pw_iconst (v := 1) dX6_fallOut_49 (by decide) ?_
          refine pw_callV3 zmM_X6_bad rfl (lw_V q2188 q2190 qs62 q150 q2191) rfl (ts_this hM) zc_X6 (t_bad0 hM 2 (by decide) 1 (by decide) hth) (by decide) (Nat.le_refl _) (Nat.le_refl _) rfl (Nat.le_of_ble_eq_true rfl) (Nat.le_of_ble_eq_true rfl) dX6_fallOut_50 zE.nx (zE_kk ?_)
          refine pw_if_eq 58 dX6_fallOut_53 (by decide) (fun c_53 => ?_) (fun c_53 => ?_)
          · obtain ⟨i, hi, rfl⟩ := inB_ex (by omega) c_11
            obtain ⟨j, hj, rfl⟩ := inB_ex (by omega) c_19
            obtain ⟨v, hv, rfl⟩ := inB_ex (by omega) c_40
            refine pw_aload_n dX6_fallOut_58 0 rfl rfl ?_
            refine pw_iload_n dX6_fallOut_59 1 rfl rfl ?_
            refine pw_iload_n dX6_fallOut_60 2 rfl rfl ?_
            refine pw_iload_n dX6_fallOut_61 3 rfl rfl ?_
            refine pw_callV3 zmM_X6_falls rfl (lw_V q2359 q2361 qs91 q150 q2362) rfl (ts_this hM) zc_X6 (t_falls hM hT0 hW i j v (Or.inl hi) (Or.inl hj) hv) (by decide) (Nat.le_refl _) (Nat.le_refl _) rfl (Nat.le_of_ble_eq_true rfl) (Nat.le_of_ble_eq_true rfl) dX6_fallOut_62 zE.nx (zE_kk ?_)
            refine pw_zret _ rfl zb_nar dX6_fallOut_65 ?_
            exact tQ_eq (((spNeed_t hok).trans (spNeed_t c_40)).trans (by rw [nI_clamp (by omega), nI_clamp (by omega), nI_clamp (by omega)])) (t_qok hT0 hth hf0 _)
          · exact absurd rfl c_53
        · refine pw_iconst (v := 1) dX6_fallOut_43 (by decide) ?_
          refine pw_goto 48 dX6_fallOut_44 (by decide) ?_
          refine pw_iconst (v := 2) dX6_fallOut_48 (by decide) ?_
          refine pw_iconst (v := 1) dX6_fallOut_49 (by decide) ?_
          refine pw_callV3 zmM_X6_bad rfl (lw_V q2188 q2190 qs62 q150 q2191) rfl (ts_this hM) zc_X6 (t_bad1 hM 2 (by decide) 1 (by decide) hth) (by decide) (Nat.le_refl _) (Nat.le_refl _) rfl (Nat.le_of_ble_eq_true rfl) (Nat.le_of_ble_eq_true rfl) dX6_fallOut_50 zE.nx (zE_kk ?_)
          refine pw_if_eq 58 dX6_fallOut_53 (by decide) (fun c_53 => ?_) (fun c_53 => ?_)
          · exact absurd c_53 (by decide)
          · refine pw_iconst (v := 0) dX6_fallOut_56 (by decide) ?_
            refine pw_zret _ rfl rfl dX6_fallOut_57 ?_
            exact tQ_eq ((spNeed_t hok).trans (spNeed_f c_40)) (t_qbad hT0 hW hf0 2 1 (by decide) _)
    · refine pw_iconst (v := 1) dX6_fallOut_22 (by decide) ?_
      refine pw_goto 27 dX6_fallOut_23 (by decide) ?_
      refine pw_iconst (v := 1) dX6_fallOut_27 (by decide) ?_
      refine pw_iconst (v := 0) dX6_fallOut_28 (by decide) ?_
      refine pw_callV3 zmM_X6_bad rfl (lw_V q2188 q2190 qs62 q150 q2191) rfl (ts_this hM) zc_X6 (t_bad1 hM 1 (by decide) 0 (by decide) hth) (by decide) (Nat.le_refl _) (Nat.le_refl _) rfl (Nat.le_of_ble_eq_true rfl) (Nat.le_of_ble_eq_true rfl) dX6_fallOut_29 zE.nx (zE_kk ?_)
      refine pw_if_ne 56 dX6_fallOut_32 (by decide) (fun c_32 => ?_) (fun c_32 => ?_)
      · refine pw_iconst (v := 0) dX6_fallOut_56 (by decide) ?_
        refine pw_zret _ rfl rfl dX6_fallOut_57 ?_
        exact tQ_eq (spNeed_f (fun h => c_19 (by simp only [Bool.and_eq_true] at h; exact h.2))) (t_qbad hT0 hW hf0 1 0 (by decide) _)
      · exact absurd c_32 (by decide)
def sp_truths (S : zS) : Int32 × Value × zS := (0, .int (spTr S (sN S 0 1)), S)
theorem t_truths {g : zg_G} {n : zg_N} {S : zS} (hM : TSh g) (hT : TW n S) (hW : WF S) : PW zm_X6_truths 3 (tQ g n (sp_truths S)) 0 0 0 [(0, .ref aT)] [] g n := by
  refine pw_aload_n dX6_truths_0 0 rfl rfl ?_
  refine pw_iconst (v := 0) dX6_truths_1 (by decide) ?_
  refine pw_puti 0 zc_X6 (ts_this hM) (by decide) (by decide) q1986 rfl (Or.inl rfl) rfl rfl dX6_truths_2 ?_
  obtain ⟨hT0, hth, hf0⟩ := t_start hT hW; generalize zpfi n aT 0 0 = n0 at hT0 hth hf0 ⊢
  refine pw_aload_n dX6_truths_5 0 rfl rfl ?_
  refine pw_callV0 zmM_X6_truthsNow rfl (lw_V q2367 q2369 qs92 q150 q2370) rfl (ts_this hM) zc_X6 (t_truthsNow hM hT0 hW) (by decide) (Nat.le_refl _) (Nat.le_refl _) rfl (Nat.le_of_ble_eq_true rfl) (Nat.le_of_ble_eq_true rfl) dX6_truths_6 zE.nx (zE_kk ?_)
  refine pw_iret rfl dX6_truths_9 ?_
  exact t_qok hT0 hth hf0 _
def spDu (S : zS) : Nat → Int32
  | 0 => 0
  | k + 1 => spDu S k ||| (if sL S 0 k &&& sL S 2 51 = 0 then 0 else nI (2 ^ k))
def sp_dull (S : zS) : Int32 × Value × zS := (0, .int (spDu S (sN S 0 1)), S)
theorem t_dull {g : zg_G} {n : zg_N} {S : zS} (hM : TSh g) (hT : TW n S) (hW : WF S) : PW zm_X6_dull 1 (tQ g n (sp_dull S)) 0 0 0 [(0, .ref aT)] [] g n := by
  have hs := hW.slips
  have hl : ∀ n0, TW n0 S → zfi n0 aT tf_thrown = 0 → zFr tXF tXA n n0 → ∀ k, k ≤ sN S 0 1 → PW zm_X6_dull 1 (tQ g n (sp_dull S)) 0 0 9 [(0, .ref aT), (1, .int (spDu S k)), (2, .int (nI k))] [] g n0 := by
    intro n0 hT0 hth hf0
    refine zl_up _ (fun k hk ih => ?_)
    refine pw_iload_n dX6_dull_9 2 rfl rfl ?_
    refine pw_aload_n dX6_dull_10 0 rfl rfl ?_
    refine pw_getr 12 zc_X6 (ts_this hM) (by decide) q1998 (Or.inr ⟨_, rfl⟩) (tr_told hM) dX6_dull_11 ?_
    refine pw_iconst (v := 1) dX6_dull_14 (by decide) ?_
    refine pw_iald 1 rfl (ts_told hM) (by decide) (by decide) dX6_dull_15 ?_
    rw [hT0.told (k := 1) (by decide)]
    refine pw_icmp_ge_N 54 dX6_dull_16 (by decide) (by omega) (by omega) (fun c_16 => ?_) (fun c_16 => ?_)
    · refine pw_iload_n dX6_dull_54 1 rfl rfl ?_
      refine pw_iret rfl dX6_dull_55 ?_
      exact tQ_eq (by rw [sp_dull, show k = sN S 0 1 by omega]) (t_qok hT0 hth hf0 _)
    · refine pw_iload_n dX6_dull_19 1 rfl rfl ?_
      refine pw_aload_n dX6_dull_20 0 rfl rfl ?_
      refine pw_getr 16 zc_X6 (ts_this hM) (by decide) q2002 (Or.inr ⟨_, rfl⟩) (tr_models hM) dX6_dull_21 ?_
      refine pw_iload_n dX6_dull_24 2 rfl rfl ?_
      refine pw_lald _ rfl (ts_models hM) (by omega) (by decide) dX6_dull_25 ?_
      rw [hT0.md (Or.inl c_16)]
      refine pw_aload_n dX6_dull_26 0 rfl rfl ?_
      refine pw_getr 19 zc_X6 (ts_this hM) (by decide) q2005 (Or.inr ⟨_, rfl⟩) (tr_leftIn hM) dX6_dull_27 ?_
      refine pw_bipush (v := 51) dX6_dull_30 (by decide) ?_
      refine pw_lald 51 rfl (ts_leftIn hM) (by omega) (by decide) dX6_dull_32 ?_
      rw [hT0.lf (by decide)]
      refine pw_land dX6_dull_33 ?_
      refine pw_lconst (v := 0) dX6_dull_34 rfl ?_
      refine pw_lcmp dX6_dull_35 ?_
      refine pw_if_eq_L 45 dX6_dull_36 (by decide) (fun c_36 => ?_) (fun c_36 => ?_)
      · refine pw_iconst (v := 0) dX6_dull_45 (by decide) ?_
        refine pw_ior dX6_dull_46 ?_
        refine pw_istore_n (ls' := [(1, _), (0, _), (2, _)]) dX6_dull_47 rfl (by decide) rfl ?_
        refine pw_ls [1, 0, 2] (ls' := [(0, _), (1, _), (2, _)]) rfl ?_
        refine pw_iinc1 (j := 2) (ls' := [(2, _), (0, _), (1, _)]) dX6_dull_48 rfl (by decide) rfl ?_
        refine pw_ls [1, 2, 0] (ls' := [(0, _), (1, _), (2, _)]) rfl ?_
        refine pw_goto 9 dX6_dull_51 (by decide) ?_
        rw [show spDu S k ||| 0 = spDu S (k + 1) from by rw [spDu, if_pos c_36]]; exact ih (k + 1) (by omega) (by omega)
      · refine pw_iconst (v := 1) dX6_dull_39 (by decide) ?_
        refine pw_iload_n dX6_dull_40 2 rfl rfl ?_
        refine pw_ishl dX6_dull_41 ?_
        rw [ishl1 (show k < 32 by omega)]
        refine pw_goto 46 dX6_dull_42 (by decide) ?_
        refine pw_ior dX6_dull_46 ?_
        refine pw_istore_n (ls' := [(1, _), (0, _), (2, _)]) dX6_dull_47 rfl (by decide) rfl ?_
        refine pw_ls [1, 0, 2] (ls' := [(0, _), (1, _), (2, _)]) rfl ?_
        refine pw_iinc1 (j := 2) (ls' := [(2, _), (0, _), (1, _)]) dX6_dull_48 rfl (by decide) rfl ?_
        refine pw_ls [1, 2, 0] (ls' := [(0, _), (1, _), (2, _)]) rfl ?_
        refine pw_goto 9 dX6_dull_51 (by decide) ?_
        rw [show spDu S k ||| nI (2 ^ k) = spDu S (k + 1) from by rw [spDu, if_neg c_36]]; exact ih (k + 1) (by omega) (by omega)
  refine pw_aload_n dX6_dull_0 0 rfl rfl ?_
  refine pw_iconst (v := 0) dX6_dull_1 (by decide) ?_
  refine pw_puti 0 zc_X6 (ts_this hM) (by decide) (by decide) q1986 rfl (Or.inl rfl) rfl rfl dX6_dull_2 ?_
  obtain ⟨hT0, hth, hf0⟩ := t_start hT hW; generalize zpfi n aT 0 0 = n0 at hT0 hth hf0 ⊢
  refine pw_iconst (v := 0) dX6_dull_5 (by decide) ?_
  refine pw_istore_n (ls' := [(1, _), (0, _)]) dX6_dull_6 rfl (by decide) rfl ?_
  refine pw_ls [1, 0] (ls' := [(0, _), (1, _)]) rfl ?_
  refine pw_iconst (v := 0) dX6_dull_7 (by decide) ?_
  refine pw_istore_n (ls' := [(2, _), (0, _), (1, _)]) dX6_dull_8 rfl (by decide) rfl ?_
  refine pw_ls [1, 2, 0] (ls' := [(0, _), (1, _), (2, _)]) rfl ?_
  exact hl n0 hT0 hth hf0 0 (Nat.zero_le _)
def sp_at (S : zS) (x : Int32) : Int32 × Value × zS := (0, .int (if inB x (sN S 0 1) = true then nI (sN S 2 x.toNatClampNeg) else -1), S)
theorem t_at {g : zg_G} {n : zg_N} {S : zS} (hM : TSh g) (hT : TW n S) (hW : WF S) (x : Int32) : PW zm_X6_at 2 (tQ g n (sp_at S x)) 0 0 0 [(0, .ref aT), (1, .int x)] [] g n := by
  have hs := hW.slips
  refine pw_aload_n dX6_at_0 0 rfl rfl ?_
  refine pw_iconst (v := 0) dX6_at_1 (by decide) ?_
  refine pw_puti 0 zc_X6 (ts_this hM) (by decide) (by decide) q1986 rfl (Or.inl rfl) rfl rfl dX6_at_2 ?_
  obtain ⟨hT0, hth, hf0⟩ := t_start hT hW; generalize zpfi n aT 0 0 = n0 at hT0 hth hf0 ⊢
  refine pw_iload_n dX6_at_5 1 rfl rfl ?_
  refine pw_iconst (v := 0) dX6_at_6 (by decide) ?_
  refine pw_aload_n dX6_at_7 0 rfl rfl ?_
  refine pw_getr 12 zc_X6 (ts_this hM) (by decide) q1998 (Or.inr ⟨_, rfl⟩) (tr_told hM) dX6_at_8 ?_
  refine pw_iconst (v := 1) dX6_at_11 (by decide) ?_
  refine pw_iald 1 rfl (ts_told hM) (by decide) (by decide) dX6_at_12 ?_
  rw [hT0.told (k := 1) (by decide)]
  refine pw_iconst (v := 1) dX6_at_13 (by decide) ?_
  refine pw_isub dX6_at_14 ?_
  refine pw_callS3 zmM_X6_in rfl (lw_S q2185 q2186 q150 q2187) (t_in _ _ _ _ _) (by decide) (Nat.le_refl _) (Nat.le_refl _) rfl (Nat.le_of_ble_eq_true rfl) (Nat.le_of_ble_eq_true rfl) dX6_at_15 zE.nx (zE_kk ?_)
  refine pw_if_eq_B 30 dX6_at_18 (by decide) (fun c_18 => ?_) (fun c_18 => ?_)
  · refine pw_iconst (v := (-1)) dX6_at_30 (by decide) ?_
    refine pw_iret rfl dX6_at_31 ?_
    exact tQ_eq (by rw [sp_at, if_neg (fun h => c_18 ((inB_m1 (by omega)).mp h))]) (t_qok hT0 hth hf0 _)
  · have c_9 := (inB_m1 (by omega)).mpr c_18; obtain ⟨j, hj, rfl⟩ := inB_ex (by omega) c_9
    refine pw_aload_n dX6_at_21 0 rfl rfl ?_
    refine pw_getr 21 zc_X6 (ts_this hM) (by decide) q2007 (Or.inr ⟨_, rfl⟩) (tr_order hM) dX6_at_22 ?_
    refine pw_iload_n dX6_at_25 1 rfl rfl ?_
    refine pw_iald _ rfl (ts_order hM) (by omega) (by decide) dX6_at_26 ?_
    rw [hT0.od (show j < 12 by omega)]
    refine pw_goto 31 dX6_at_27 (by decide) ?_
    refine pw_iret rfl dX6_at_31 ?_
    exact tQ_eq (by rw [sp_at, if_pos c_9, nI_clamp (by omega)]) (t_qok hT0 hth hf0 _)
def sp_law (S : zS) (x : Int32) : Int32 × Value × zS := spNeed S (inB x 5) 1 1 (.int 0) (0, .int (nI (sN S 0 5)), sSet S 5 x.toNatClampNeg)
theorem t_law {g : zg_G} {n : zg_N} {S : zS} (hM : TSh g) (hT : TW n S) (hW : WF S) (x : Int32) : PW zm_X6_law 2 (tQ g n (sp_law S x)) 0 0 0 [(0, .ref aT), (1, .int x)] [] g n := by
  refine pw_aload_n dX6_law_0 0 rfl rfl ?_
  refine pw_iconst (v := 0) dX6_law_1 (by decide) ?_
  refine pw_puti 0 zc_X6 (ts_this hM) (by decide) (by decide) q1986 rfl (Or.inl rfl) rfl rfl dX6_law_2 ?_
  obtain ⟨hT0, hth, hf0⟩ := t_start hT hW; generalize zpfi n aT 0 0 = n0 at hT0 hth hf0 ⊢
  refine pw_aload_n dX6_law_5 0 rfl rfl ?_
  refine pw_iload_n dX6_law_6 1 rfl rfl ?_
  refine pw_iconst (v := 0) dX6_law_7 (by decide) ?_
  refine pw_iconst (v := 4) dX6_law_8 (by decide) ?_
  refine pw_callS3 zmM_X6_in rfl (lw_S q2185 q2186 q150 q2187) (t_in _ _ _ _ _) (by decide) (Nat.le_refl _) (Nat.le_refl _) rfl (Nat.le_of_ble_eq_true rfl) (Nat.le_of_ble_eq_true rfl) dX6_law_9 zE.nx (zE_kk ?_)
  refine pw_if_ne_B 19 dX6_law_12 (by decide) (fun c_12 => ?_) (fun c_12 => ?_)
  · refine pw_iconst (v := 0) dX6_law_19 (by decide) ?_
    refine pw_iconst (v := 1) dX6_law_20 (by decide) ?_
    refine pw_iconst (v := 1) dX6_law_21 (by decide) ?_
    refine pw_callV3 zmM_X6_bad rfl (lw_V q2188 q2190 qs62 q150 q2191) rfl (ts_this hM) zc_X6 (t_bad0 hM 1 (by decide) 1 (by decide) hth) (by decide) (Nat.le_refl _) (Nat.le_refl _) rfl (Nat.le_of_ble_eq_true rfl) (Nat.le_of_ble_eq_true rfl) dX6_law_22 zE.nx (zE_kk ?_)
    refine pw_if_eq 30 dX6_law_25 (by decide) (fun c_25 => ?_) (fun c_25 => ?_)
    · have c_9 := (inB_le (m := 4) (by decide)).mpr c_12; obtain ⟨j, hj, rfl⟩ := inB_ex (by decide) c_9
      refine pw_aload_n dX6_law_30 0 rfl rfl ?_
      refine pw_getr 12 zc_X6 (ts_this hM) (by decide) q1998 (Or.inr ⟨_, rfl⟩) (tr_told hM) dX6_law_31 ?_
      refine pw_iconst (v := 5) dX6_law_34 (by decide) ?_
      refine pw_iald 5 rfl (ts_told hM) (by decide) (by decide) dX6_law_35 ?_
      rw [hT0.told (k := 5) (by decide)]
      refine pw_istore_n (ls' := [(2, _), (0, _), (1, _)]) dX6_law_36 rfl (by decide) rfl ?_
      refine pw_ls [1, 2, 0] (ls' := [(0, _), (1, _), (2, _)]) rfl ?_
      refine pw_aload_n dX6_law_37 0 rfl rfl ?_
      refine pw_getr 12 zc_X6 (ts_this hM) (by decide) q1998 (Or.inr ⟨_, rfl⟩) (tr_told hM) dX6_law_38 ?_
      refine pw_iconst (v := 5) dX6_law_41 (by decide) ?_
      refine pw_iload_n dX6_law_42 1 rfl rfl ?_
      refine pw_iast 5 rfl (ts_told hM) (by decide) (by decide) (by decide) dX6_law_43 ?_
      refine pw_iload_n dX6_law_44 2 rfl rfl ?_
      refine pw_iret rfl dX6_law_45 ?_
      exact tQ_eq ((spNeed_t c_9).trans (by rw [nI_clamp (by omega)])) (t_qset hT0 hW hth hf0 _ 5 j (by decide))
    · exact absurd rfl c_25
  · refine pw_iconst (v := 1) dX6_law_15 (by decide) ?_
    refine pw_goto 20 dX6_law_16 (by decide) ?_
    refine pw_iconst (v := 1) dX6_law_20 (by decide) ?_
    refine pw_iconst (v := 1) dX6_law_21 (by decide) ?_
    refine pw_callV3 zmM_X6_bad rfl (lw_V q2188 q2190 qs62 q150 q2191) rfl (ts_this hM) zc_X6 (t_bad1 hM 1 (by decide) 1 (by decide) hth) (by decide) (Nat.le_refl _) (Nat.le_refl _) rfl (Nat.le_of_ble_eq_true rfl) (Nat.le_of_ble_eq_true rfl) dX6_law_22 zE.nx (zE_kk ?_)
    refine pw_if_eq 30 dX6_law_25 (by decide) (fun c_25 => ?_) (fun c_25 => ?_)
    · exact absurd c_25 (by decide)
    · refine pw_iconst (v := 0) dX6_law_28 (by decide) ?_
      refine pw_iret rfl dX6_law_29 ?_
      exact tQ_eq (spNeed_f (fun h => c_12 ((inB_le (m := 4) (by decide)).mp h))) (t_qbad hT0 hW hf0 1 1 (by decide) _)
def sp_world (S : zS) (x : Int32) : Int32 × Value × zS := spNeed S (inB x (2 ^ sN S 0 0)) 1 1 (.int 0) (0, .int (nI (sN S 0 4)), sSet S 4 x.toNatClampNeg)
theorem t_world {g : zg_G} {n : zg_N} {S : zS} (hM : TSh g) (hT : TW n S) (hW : WF S) (x : Int32) : PW zm_X6_world 2 (tQ g n (sp_world S x)) 0 0 0 [(0, .ref aT), (1, .int x)] [] g n := by
  have h6 := hW.atoms.2
  have hp := nat_pow6 h6
  refine pw_aload_n dX6_world_0 0 rfl rfl ?_
  refine pw_iconst (v := 0) dX6_world_1 (by decide) ?_
  refine pw_puti 0 zc_X6 (ts_this hM) (by decide) (by decide) q1986 rfl (Or.inl rfl) rfl rfl dX6_world_2 ?_
  obtain ⟨hT0, hth, hf0⟩ := t_start hT hW; generalize zpfi n aT 0 0 = n0 at hT0 hth hf0 ⊢
  refine pw_aload_n dX6_world_5 0 rfl rfl ?_
  refine pw_iload_n dX6_world_6 1 rfl rfl ?_
  refine pw_iconst (v := 0) dX6_world_7 (by decide) ?_
  refine pw_iconst (v := 1) dX6_world_8 (by decide) ?_
  refine pw_aload_n dX6_world_9 0 rfl rfl ?_
  refine pw_getr 12 zc_X6 (ts_this hM) (by decide) q1998 (Or.inr ⟨_, rfl⟩) (tr_told hM) dX6_world_10 ?_
  refine pw_iconst (v := 0) dX6_world_13 (by decide) ?_
  refine pw_iald 0 rfl (ts_told hM) (by decide) (by decide) dX6_world_14 ?_
  rw [hT0.told (k := 0) (by decide)]
  refine pw_ishl dX6_world_15 ?_
  rw [ishl1 (by omega)]
  refine pw_iconst (v := 1) dX6_world_16 (by decide) ?_
  refine pw_isub dX6_world_17 ?_
  refine pw_callS3 zmM_X6_in rfl (lw_S q2185 q2186 q150 q2187) (t_in _ _ _ _ _) (by decide) (Nat.le_refl _) (Nat.le_refl _) rfl (Nat.le_of_ble_eq_true rfl) (Nat.le_of_ble_eq_true rfl) dX6_world_18 zE.nx (zE_kk ?_)
  refine pw_if_ne_B 28 dX6_world_21 (by decide) (fun c_21 => ?_) (fun c_21 => ?_)
  · refine pw_iconst (v := 0) dX6_world_28 (by decide) ?_
    refine pw_iconst (v := 1) dX6_world_29 (by decide) ?_
    refine pw_iconst (v := 1) dX6_world_30 (by decide) ?_
    refine pw_callV3 zmM_X6_bad rfl (lw_V q2188 q2190 qs62 q150 q2191) rfl (ts_this hM) zc_X6 (t_bad0 hM 1 (by decide) 1 (by decide) hth) (by decide) (Nat.le_refl _) (Nat.le_refl _) rfl (Nat.le_of_ble_eq_true rfl) (Nat.le_of_ble_eq_true rfl) dX6_world_31 zE.nx (zE_kk ?_)
    refine pw_if_eq 39 dX6_world_34 (by decide) (fun c_34 => ?_) (fun c_34 => ?_)
    · have c_9 := (inB_m1 (by omega)).mpr c_21; obtain ⟨j, hj, rfl⟩ := inB_ex (by omega) c_9
      refine pw_aload_n dX6_world_39 0 rfl rfl ?_
      refine pw_getr 12 zc_X6 (ts_this hM) (by decide) q1998 (Or.inr ⟨_, rfl⟩) (tr_told hM) dX6_world_40 ?_
      refine pw_iconst (v := 4) dX6_world_43 (by decide) ?_
      refine pw_iald 4 rfl (ts_told hM) (by decide) (by decide) dX6_world_44 ?_
      rw [hT0.told (k := 4) (by decide)]
      refine pw_istore_n (ls' := [(2, _), (0, _), (1, _)]) dX6_world_45 rfl (by decide) rfl ?_
      refine pw_ls [1, 2, 0] (ls' := [(0, _), (1, _), (2, _)]) rfl ?_
      refine pw_aload_n dX6_world_46 0 rfl rfl ?_
      refine pw_getr 12 zc_X6 (ts_this hM) (by decide) q1998 (Or.inr ⟨_, rfl⟩) (tr_told hM) dX6_world_47 ?_
      refine pw_iconst (v := 4) dX6_world_50 (by decide) ?_
      refine pw_iload_n dX6_world_51 1 rfl rfl ?_
      refine pw_iast 4 rfl (ts_told hM) (by decide) (by decide) (by decide) dX6_world_52 ?_
      refine pw_iload_n dX6_world_53 2 rfl rfl ?_
      refine pw_iret rfl dX6_world_54 ?_
      exact tQ_eq ((spNeed_t c_9).trans (by rw [nI_clamp (by omega)])) (t_qset hT0 hW hth hf0 _ 4 j (by decide))
    · exact absurd rfl c_34
  · refine pw_iconst (v := 1) dX6_world_24 (by decide) ?_
    refine pw_goto 29 dX6_world_25 (by decide) ?_
    refine pw_iconst (v := 1) dX6_world_29 (by decide) ?_
    refine pw_iconst (v := 1) dX6_world_30 (by decide) ?_
    refine pw_callV3 zmM_X6_bad rfl (lw_V q2188 q2190 qs62 q150 q2191) rfl (ts_this hM) zc_X6 (t_bad1 hM 1 (by decide) 1 (by decide) hth) (by decide) (Nat.le_refl _) (Nat.le_refl _) rfl (Nat.le_of_ble_eq_true rfl) (Nat.le_of_ble_eq_true rfl) dX6_world_31 zE.nx (zE_kk ?_)
    refine pw_if_eq 39 dX6_world_34 (by decide) (fun c_34 => ?_) (fun c_34 => ?_)
    · exact absurd c_34 (by decide)
    · refine pw_iconst (v := 0) dX6_world_37 (by decide) ?_
      refine pw_iret rfl dX6_world_38 ?_
      exact tQ_eq (spNeed_f (fun h => c_21 ((inB_m1 (by omega)).mp h))) (t_qbad hT0 hW hf0 1 1 (by decide) _)
def sp_status (S : zS) (x : Int32) : Int32 × Value × zS := (0, .int (if inB x 3 = true then sI S 0 x.toNatClampNeg else -1), S)
theorem t_status {g : zg_G} {n : zg_N} {S : zS} (hM : TSh g) (hT : TW n S) (hW : WF S) (x : Int32) : PW zm_X6_status 2 (tQ g n (sp_status S x)) 0 0 0 [(0, .ref aT), (1, .int x)] [] g n := by
  refine pw_aload_n dX6_status_0 0 rfl rfl ?_
  refine pw_iconst (v := 0) dX6_status_1 (by decide) ?_
  refine pw_puti 0 zc_X6 (ts_this hM) (by decide) (by decide) q1986 rfl (Or.inl rfl) rfl rfl dX6_status_2 ?_
  obtain ⟨hT0, hth, hf0⟩ := t_start hT hW; generalize zpfi n aT 0 0 = n0 at hT0 hth hf0 ⊢
  refine pw_iload_n dX6_status_5 1 rfl rfl ?_
  refine pw_iconst (v := 0) dX6_status_6 (by decide) ?_
  refine pw_iconst (v := 2) dX6_status_7 (by decide) ?_
  refine pw_callS3 zmM_X6_in rfl (lw_S q2185 q2186 q150 q2187) (t_in _ _ _ _ _) (by decide) (Nat.le_refl _) (Nat.le_refl _) rfl (Nat.le_of_ble_eq_true rfl) (Nat.le_of_ble_eq_true rfl) dX6_status_8 zE.nx (zE_kk ?_)
  refine pw_if_eq_B 23 dX6_status_11 (by decide) (fun c_11 => ?_) (fun c_11 => ?_)
  · refine pw_iconst (v := (-1)) dX6_status_23 (by decide) ?_
    refine pw_iret rfl dX6_status_24 ?_
    exact tQ_eq (by rw [sp_status, if_neg (fun h => c_11 ((inB_le (m := 2) (by decide)).mp h))]) (t_qok hT0 hth hf0 _)
  · have c_9 := (inB_le (m := 2) (by decide)).mpr c_11; obtain ⟨j, hj, rfl⟩ := inB_ex (by decide) c_9
    refine pw_aload_n dX6_status_14 0 rfl rfl ?_
    refine pw_getr 10 zc_X6 (ts_this hM) (by decide) q1996 (Or.inr ⟨_, rfl⟩) (tr_refused hM) dX6_status_15 ?_
    refine pw_iload_n dX6_status_18 1 rfl rfl ?_
    refine pw_iald _ rfl (ts_refused hM) (by omega) (by decide) dX6_status_19 ?_
    rw [hT0.ref hj]
    refine pw_goto 24 dX6_status_20 (by decide) ?_
    refine pw_iret rfl dX6_status_24 ?_
    exact tQ_eq (by rw [sp_status, if_pos c_9, nI_clamp (by omega)]) (t_qok hT0 hth hf0 _)
def sp_count (S : zS) (x : Int32) : Int32 × Value × zS := (0, .int (if x = 0 then nI (sN S 0 6) else if x = 1 then nI (sN S 0 7) else -1), S)
theorem t_count {g : zg_G} {n : zg_N} {S : zS} (hM : TSh g) (hT : TW n S) (hW : WF S) (x : Int32) : PW zm_X6_count 1 (tQ g n (sp_count S x)) 0 0 0 [(0, .ref aT), (1, .int x)] [] g n := by
  refine pw_aload_n dX6_count_0 0 rfl rfl ?_
  refine pw_iconst (v := 0) dX6_count_1 (by decide) ?_
  refine pw_puti 0 zc_X6 (ts_this hM) (by decide) (by decide) q1986 rfl (Or.inl rfl) rfl rfl dX6_count_2 ?_
  obtain ⟨hT0, hth, hf0⟩ := t_start hT hW; generalize zpfi n aT 0 0 = n0 at hT0 hth hf0 ⊢
  refine pw_iload_n dX6_count_5 1 rfl rfl ?_
  refine pw_if_ne 16 dX6_count_6 (by decide) (fun c_6 => ?_) (fun c_6 => ?_)
  · refine pw_iload_n dX6_count_16 1 rfl rfl ?_
    refine pw_iconst (v := 1) dX6_count_17 (by decide) ?_
    refine pw_icmp_ne 28 dX6_count_18 (by decide) (fun c_18 => ?_) (fun c_18 => ?_)
    · refine pw_iconst (v := (-1)) dX6_count_28 (by decide) ?_
      refine pw_iret rfl dX6_count_29 ?_
      exact tQ_eq (by rw [sp_count, if_neg c_6, if_neg c_18]) (t_qok hT0 hth hf0 _)
    · refine pw_aload_n dX6_count_21 0 rfl rfl ?_
      refine pw_geti 1 zc_X6 (ts_this hM) (by decide) q1987 (Or.inl rfl) dX6_count_22 ?_
      rw [hT0.tape]
      refine pw_goto 29 dX6_count_25 (by decide) ?_
      refine pw_iret rfl dX6_count_29 ?_
      exact tQ_eq (by rw [sp_count, if_neg c_6, if_pos c_18]) (t_qok hT0 hth hf0 _)
  · refine pw_aload_n dX6_count_9 0 rfl rfl ?_
    refine pw_geti 22 zc_X6 (ts_this hM) (by decide) q2008 (Or.inl rfl) dX6_count_10 ?_
    rw [hT0.im]
    refine pw_goto 29 dX6_count_13 (by decide) ?_
    refine pw_iret rfl dX6_count_29 ?_
    exact tQ_eq (by rw [sp_count, if_pos c_6]) (t_qok hT0 hth hf0 _)
theorem t_badSet {g : zg_G} {n : zg_N} {S : zS} (hM : TSh g) (hT : TW n S) (hW : WF S) (x w : Int32) (h0 : zfi n aT tf_thrown = 0) : PW zm_X6_badSet 3 (zE (some (.int (zb (¬ (inB x (2 ^ sN S 0 1) && inB w 52) = true)))) g (if (inB x (2 ^ sN S 0 1) && inB w 52) = true then n else tBad n 1 1)) 0 0 0 [(0, .ref aT), (1, .int x), (2, .int w)] [] g n := by
  refine pw_aload_n dX6_badSet_0 0 rfl rfl ?_
  refine pw_aload_n dX6_badSet_1 0 rfl rfl ?_
  refine pw_iload_n dX6_badSet_2 1 rfl rfl ?_
  refine pw_callV1 zmM_X6_areSlips rfl (lw_V q2561 q2563 qs115 q150 q2564) rfl (ts_this hM) zc_X6 (t_areSlips hM hT hW x) (by decide) (Nat.le_refl _) (Nat.le_refl _) rfl (Nat.le_of_ble_eq_true rfl) (Nat.le_of_ble_eq_true rfl) dX6_badSet_3 zE.nx (zE_kk ?_)
  refine pw_if_eq_B 16 dX6_badSet_6 (by decide) (fun c_6 => ?_) (fun c_6 => ?_)
  · refine pw_iconst (v := 1) dX6_badSet_16 (by decide) ?_
    refine pw_goto 21 dX6_badSet_17 (by decide) ?_
    refine pw_iconst (v := 1) dX6_badSet_21 (by decide) ?_
    refine pw_iconst (v := 1) dX6_badSet_22 (by decide) ?_
    refine pw_callV3 zmM_X6_bad rfl (lw_V q2188 q2190 qs62 q150 q2191) rfl (ts_this hM) zc_X6 (t_bad1 hM 1 (by decide) 1 (by decide) h0) (by decide) (Nat.le_refl _) (Nat.le_refl _) rfl (Nat.le_of_ble_eq_true rfl) (Nat.le_of_ble_eq_true rfl) dX6_badSet_23 zE.nx (zE_kk ?_)
    refine pw_zret _ rfl rfl dX6_badSet_26 ?_
    have hno : ¬ (inB x (2 ^ sN S 0 1) && inB w 52) = true := fun h => c_6 (by simp only [Bool.and_eq_true] at h; exact h.1)
    exact ⟨by rw [zb_t hno], rfl, (if_neg hno).symm⟩
  · refine pw_iload_n dX6_badSet_9 2 rfl rfl ?_
    refine pw_callS1 zmM_X6_isWeek rfl (lw_S q2348 q2349 q150 q2350) (t_isWeek w _ _) (by decide) (Nat.le_refl _) (Nat.le_refl _) rfl (Nat.le_of_ble_eq_true rfl) (Nat.le_of_ble_eq_true rfl) dX6_badSet_10 zE.nx (zE_kk ?_)
    refine pw_if_ne_B 20 dX6_badSet_13 (by decide) (fun c_13 => ?_) (fun c_13 => ?_)
    · refine pw_iconst (v := 0) dX6_badSet_20 (by decide) ?_
      refine pw_iconst (v := 1) dX6_badSet_21 (by decide) ?_
      refine pw_iconst (v := 1) dX6_badSet_22 (by decide) ?_
      refine pw_callV3 zmM_X6_bad rfl (lw_V q2188 q2190 qs62 q150 q2191) rfl (ts_this hM) zc_X6 (t_bad0 hM 1 (by decide) 1 (by decide) h0) (by decide) (Nat.le_refl _) (Nat.le_refl _) rfl (Nat.le_of_ble_eq_true rfl) (Nat.le_of_ble_eq_true rfl) dX6_badSet_23 zE.nx (zE_kk ?_)
      refine pw_zret _ rfl rfl dX6_badSet_26 ?_
      have hok : (inB x (2 ^ sN S 0 1) && inB w 52) = true := by rw [c_6, c_13]; rfl
      exact ⟨by rw [zb_f (fun h => h hok)], rfl, (if_pos hok).symm⟩
    · refine pw_iconst (v := 1) dX6_badSet_16 (by decide) ?_
      refine pw_goto 21 dX6_badSet_17 (by decide) ?_
      refine pw_iconst (v := 1) dX6_badSet_21 (by decide) ?_
      refine pw_iconst (v := 1) dX6_badSet_22 (by decide) ?_
      refine pw_callV3 zmM_X6_bad rfl (lw_V q2188 q2190 qs62 q150 q2191) rfl (ts_this hM) zc_X6 (t_bad1 hM 1 (by decide) 1 (by decide) h0) (by decide) (Nat.le_refl _) (Nat.le_refl _) rfl (Nat.le_of_ble_eq_true rfl) (Nat.le_of_ble_eq_true rfl) dX6_badSet_23 zE.nx (zE_kk ?_)
      refine pw_zret _ rfl rfl dX6_badSet_26 ?_
      have hno : ¬ (inB x (2 ^ sN S 0 1) && inB w 52) = true := fun h => c_13 (by simp only [Bool.and_eq_true] at h; exact h.2)
      exact ⟨by rw [zb_t hno], rfl, (if_neg hno).symm⟩
def sp_fits (S : zS) (x w : Int32) : Int32 × Value × zS := spNeed S (inB x (2 ^ sN S 0 1) && inB w 52) 1 1 (.int 0) (0, .int (zb (¬ spTog S x w.toNatClampNeg = 0)), S)
theorem t_fits {g : zg_G} {n : zg_N} {S : zS} (hM : TSh g) (hT : TW n S) (hW : WF S) (x w : Int32) : PW zm_X6_fits 4 (tQ g n (sp_fits S x w)) 0 0 0 [(0, .ref aT), (1, .int x), (2, .int w)] [] g n := by
  refine pw_aload_n dX6_fits_0 0 rfl rfl ?_
  refine pw_iconst (v := 0) dX6_fits_1 (by decide) ?_
  refine pw_puti 0 zc_X6 (ts_this hM) (by decide) (by decide) q1986 rfl (Or.inl rfl) rfl rfl dX6_fits_2 ?_
  obtain ⟨hT0, hth, hf0⟩ := t_start hT hW; generalize zpfi n aT 0 0 = n0 at hT0 hth hf0 ⊢
  refine pw_aload_n dX6_fits_5 0 rfl rfl ?_
  refine pw_iload_n dX6_fits_6 1 rfl rfl ?_
  refine pw_iload_n dX6_fits_7 2 rfl rfl ?_
  refine pw_callV2 zmM_X6_badSet rfl (lw_V q2557 q2559 qs114 q150 q2560) rfl (ts_this hM) zc_X6 (t_badSet hM hT0 hW x w hth) (by decide) (Nat.le_refl _) (Nat.le_refl _) rfl (Nat.le_of_ble_eq_true rfl) (Nat.le_of_ble_eq_true rfl) dX6_fits_8 zE.nx (zE_kk ?_)
  refine pw_if_eq_B 16 dX6_fits_11 (by decide) (fun c_11 => ?_) (fun c_11 => ?_)
  · have c_9 := Classical.not_not.mp c_11; rw [if_pos c_9]; obtain ⟨j, hj, rfl⟩ := inB_ex (m := 52) (by decide) (by simp only [Bool.and_eq_true] at c_9; exact c_9.2)
    refine pw_aload_n dX6_fits_16 0 rfl rfl ?_
    refine pw_iload_n dX6_fits_17 1 rfl rfl ?_
    refine pw_iload_n dX6_fits_18 2 rfl rfl ?_
    refine pw_callV2 zmM_X6_togetherIn rfl (lw_V q2475 q2477 qs109 q150 q2478) rfl (ts_this hM) zc_X6 (t_togetherIn hM hT0 hW x j hj) (by decide) (Nat.le_refl _) (Nat.le_refl _) rfl (Nat.le_of_ble_eq_true rfl) (Nat.le_of_ble_eq_true rfl) dX6_fits_19 zE.nx (zE_kk ?_)
    refine pw_lconst (v := 0) dX6_fits_22 rfl ?_
    refine pw_lcmp dX6_fits_23 ?_
    refine pw_if_eq_L 31 dX6_fits_24 (by decide) (fun c_24 => ?_) (fun c_24 => ?_)
    · refine pw_iconst (v := 0) dX6_fits_31 (by decide) ?_
      refine pw_zret _ rfl rfl dX6_fits_32 ?_
      exact tQ_eq ((spNeed_t c_9).trans (by rw [nI_clamp (by omega), zb_f (fun h => h c_24)])) (t_qok hT0 hth hf0 _)
    · refine pw_iconst (v := 1) dX6_fits_27 (by decide) ?_
      refine pw_goto 32 dX6_fits_28 (by decide) ?_
      refine pw_zret _ rfl rfl dX6_fits_32 ?_
      exact tQ_eq ((spNeed_t c_9).trans (by rw [nI_clamp (by omega), zb_t c_24])) (t_qok hT0 hth hf0 _)
  · rw [if_neg c_11]
    refine pw_iconst (v := 0) dX6_fits_14 (by decide) ?_
    refine pw_zret _ rfl rfl dX6_fits_15 ?_
    exact tQ_eq (spNeed_f c_11) (t_qbad hT0 hW hf0 1 1 (by decide) _)
def sp_together (S : zS) (x w : Int32) : Int32 × Value × zS := spNeed S (inB x (2 ^ sN S 0 1) && inB w 52) 1 1 (.long 0) (0, .long (spTog S x w.toNatClampNeg), S)
theorem t_together {g : zg_G} {n : zg_N} {S : zS} (hM : TSh g) (hT : TW n S) (hW : WF S) (x w : Int32) : PW zm_X6_together 4 (tQ g n (sp_together S x w)) 0 0 0 [(0, .ref aT), (1, .int x), (2, .int w)] [] g n := by
  refine pw_aload_n dX6_together_0 0 rfl rfl ?_
  refine pw_iconst (v := 0) dX6_together_1 (by decide) ?_
  refine pw_puti 0 zc_X6 (ts_this hM) (by decide) (by decide) q1986 rfl (Or.inl rfl) rfl rfl dX6_together_2 ?_
  obtain ⟨hT0, hth, hf0⟩ := t_start hT hW; generalize zpfi n aT 0 0 = n0 at hT0 hth hf0 ⊢
  refine pw_aload_n dX6_together_5 0 rfl rfl ?_
  refine pw_iload_n dX6_together_6 1 rfl rfl ?_
  refine pw_iload_n dX6_together_7 2 rfl rfl ?_
  refine pw_callV2 zmM_X6_badSet rfl (lw_V q2557 q2559 qs114 q150 q2560) rfl (ts_this hM) zc_X6 (t_badSet hM hT0 hW x w hth) (by decide) (Nat.le_refl _) (Nat.le_refl _) rfl (Nat.le_of_ble_eq_true rfl) (Nat.le_of_ble_eq_true rfl) dX6_together_8 zE.nx (zE_kk ?_)
  refine pw_if_eq_B 16 dX6_together_11 (by decide) (fun c_11 => ?_) (fun c_11 => ?_)
  · have c_9 := Classical.not_not.mp c_11; rw [if_pos c_9]; obtain ⟨j, hj, rfl⟩ := inB_ex (m := 52) (by decide) (by simp only [Bool.and_eq_true] at c_9; exact c_9.2)
    refine pw_aload_n dX6_together_16 0 rfl rfl ?_
    refine pw_iload_n dX6_together_17 1 rfl rfl ?_
    refine pw_iload_n dX6_together_18 2 rfl rfl ?_
    refine pw_callV2 zmM_X6_togetherIn rfl (lw_V q2475 q2477 qs109 q150 q2478) rfl (ts_this hM) zc_X6 (t_togetherIn hM hT0 hW x j hj) (by decide) (Nat.le_refl _) (Nat.le_refl _) rfl (Nat.le_of_ble_eq_true rfl) (Nat.le_of_ble_eq_true rfl) dX6_together_19 zE.nx (zE_kk ?_)
    refine pw_lret rfl dX6_together_22 ?_
    exact tQ_eq ((spNeed_t c_9).trans (by rw [nI_clamp (by omega)])) (t_qok hT0 hth hf0 _)
  · rw [if_neg c_11]
    refine pw_lconst (v := 0) dX6_together_14 rfl ?_
    refine pw_lret rfl dX6_together_15 ?_
    exact tQ_eq (spNeed_f c_11) (t_qbad hT0 hW hf0 1 1 (by decide) _)
def sp_following (S : zS) (x w : Int32) : Int32 × Value × zS := spNeed S (inB x (2 ^ sN S 0 1) && inB w 52) 1 1 (.int 0) (0, .int (spFo S (spTog S x w.toNatClampNeg) (sN S 0 1)), S)
theorem t_following {g : zg_G} {n : zg_N} {S : zS} (hM : TSh g) (hT : TW n S) (hW : WF S) (x w : Int32) : PW zm_X6_following 4 (tQ g n (sp_following S x w)) 0 0 0 [(0, .ref aT), (1, .int x), (2, .int w)] [] g n := by
  refine pw_aload_n dX6_following_0 0 rfl rfl ?_
  refine pw_iconst (v := 0) dX6_following_1 (by decide) ?_
  refine pw_puti 0 zc_X6 (ts_this hM) (by decide) (by decide) q1986 rfl (Or.inl rfl) rfl rfl dX6_following_2 ?_
  obtain ⟨hT0, hth, hf0⟩ := t_start hT hW; generalize zpfi n aT 0 0 = n0 at hT0 hth hf0 ⊢
  refine pw_aload_n dX6_following_5 0 rfl rfl ?_
  refine pw_iload_n dX6_following_6 1 rfl rfl ?_
  refine pw_iload_n dX6_following_7 2 rfl rfl ?_
  refine pw_callV2 zmM_X6_badSet rfl (lw_V q2557 q2559 qs114 q150 q2560) rfl (ts_this hM) zc_X6 (t_badSet hM hT0 hW x w hth) (by decide) (Nat.le_refl _) (Nat.le_refl _) rfl (Nat.le_of_ble_eq_true rfl) (Nat.le_of_ble_eq_true rfl) dX6_following_8 zE.nx (zE_kk ?_)
  refine pw_if_eq_B 16 dX6_following_11 (by decide) (fun c_11 => ?_) (fun c_11 => ?_)
  · have c_9 := Classical.not_not.mp c_11; rw [if_pos c_9]; obtain ⟨j, hj, rfl⟩ := inB_ex (m := 52) (by decide) (by simp only [Bool.and_eq_true] at c_9; exact c_9.2)
    refine pw_aload_n dX6_following_16 0 rfl rfl ?_
    refine pw_aload_n dX6_following_17 0 rfl rfl ?_
    refine pw_iload_n dX6_following_18 1 rfl rfl ?_
    refine pw_iload_n dX6_following_19 2 rfl rfl ?_
    refine pw_callV2 zmM_X6_togetherIn rfl (lw_V q2475 q2477 qs109 q150 q2478) rfl (ts_this hM) zc_X6 (t_togetherIn hM hT0 hW x j hj) (by decide) (Nat.le_refl _) (Nat.le_refl _) rfl (Nat.le_of_ble_eq_true rfl) (Nat.le_of_ble_eq_true rfl) dX6_following_20 zE.nx (zE_kk ?_)
    refine pw_callV1 zmM_X6_followingOf rfl (lw_V q2573 q2575 qs116 q150 q2576) rfl (ts_this hM) zc_X6 (t_followingOf hM hT0 hW _) (by decide) (Nat.le_refl _) (Nat.le_refl _) rfl (Nat.le_of_ble_eq_true rfl) (Nat.le_of_ble_eq_true rfl) dX6_following_23 zE.nx (zE_kk ?_)
    refine pw_iret rfl dX6_following_26 ?_
    exact tQ_eq ((spNeed_t c_9).trans (by rw [nI_clamp (by omega)])) (t_qok hT0 hth hf0 _)
  · rw [if_neg c_11]
    refine pw_iconst (v := 0) dX6_following_14 (by decide) ?_
    refine pw_iret rfl dX6_following_15 ?_
    exact tQ_eq (spNeed_f c_11) (t_qbad hT0 hW hf0 1 1 (by decide) _)

/-! ===== the reference: sets, by what is left ===== -/
/-! picking out of sets: the first, or one that is better by its count -/
def spPick (q : Nat → Bool) (bt : Nat → Nat → Bool) : Nat → Int32
  | 0 => -1
  | m + 1 => if q m = true ∧ (spPick q bt m = -1 ∨ bt (ic (nI m)) (ic (spPick q bt m)) = true) then nI m else spPick q bt m
theorem spPick_no {q : Nat → Bool} {bt : Nat → Nat → Bool} {m : Nat} (h : q m = false) : spPick q bt (m + 1) = spPick q bt m := if_neg (fun z => by rw [h] at z; exact absurd z.1 (by decide))
theorem spPick_1 {q : Nat → Bool} {bt : Nat → Nat → Bool} {m : Nat} (h : q m = true) (h2 : spPick q bt m = -1) : spPick q bt (m + 1) = nI m := if_pos ⟨h, Or.inl h2⟩
theorem spPick_2 {q : Nat → Bool} {bt : Nat → Nat → Bool} {m : Nat} (h : q m = true) (h2 : bt (ic (nI m)) (ic (spPick q bt m)) = true) : spPick q bt (m + 1) = nI m := if_pos ⟨h, Or.inr h2⟩
theorem spPick_3 {q : Nat → Bool} {bt : Nat → Nat → Bool} {m : Nat} (h1 : ¬ spPick q bt m = -1) (h2 : bt (ic (nI m)) (ic (spPick q bt m)) = false) : spPick q bt (m + 1) = spPick q bt m := if_neg (fun z => z.2.elim h1 (fun y => by rw [h2] at y; exact absurd y (by decide)))
theorem spPick_nI (q : Nat → Bool) (bt : Nat → Nat → Bool) : ∀ m, spPick q bt m = -1 ∨ ∃ j, j < m ∧ spPick q bt m = nI j
  | 0 => Or.inl rfl
  | m + 1 => by
    rw [spPick]
    split
    · exact Or.inr ⟨m, by omega, rfl⟩
    · rcases spPick_nI q bt m with h | ⟨j, hj, h⟩
      · exact Or.inl h
      · exact Or.inr ⟨j, by omega, h⟩
theorem spPick_ge {q : Nat → Bool} {bt : Nat → Nat → Bool} {m : Nat} (hm : m ≤ 4096) (h : ¬ spPick q bt m = -1) : ∃ j, j < 4096 ∧ spPick q bt m = nI j := by
  rcases spPick_nI q bt m with h1 | ⟨j, hj, h1⟩
  · exact absurd h1 h
  · exact ⟨j, by omega, h1⟩
theorem ct_ext (p q : Nat → Bool) : ∀ n m, n ≤ m → (∀ k, k < n → p k = q k) → (∀ k, n ≤ k → k < m → q k = false) → ct p n = ct q m := by
  intro n m hnm h1 h2
  induction m with
  | zero => rw [show n = 0 by omega]; rfl
  | succ m ih =>
    by_cases h : n = m + 1
    · subst h; exact ct_cong h1
    · have := ih (by omega) (fun k a b => h2 k a (by omega))
      simp only [ct]; rw [← this, h2 m (by omega) (by omega)]; rfl
theorem ct_t {p : Nat → Bool} {k : Nat} (h : p k = true) : nI (ct p k) + 1 = nI (ct p (k + 1)) := by simp only [ct, h]; exact nI_1 _
theorem ct_f {p : Nat → Bool} {k : Nat} (h : p k = false) : nI (ct p k) + 0 = nI (ct p (k + 1)) := by simp only [ct, h]; exact Int32.add_zero _
theorem lc_ic {j : Nat} (hj : j < 2147483648) : lc (nI j).toInt64 = ic (nI j) := by
  unfold lc ic
  refine (ct_ext _ _ 32 64 (by decide) (fun k hk => ?_) (fun k h1 h2 => ?_)).symm
  · rw [nI_l hj, lb_lN (by omega), ib_nI hk]
  · rw [nI_l hj, lb_lN h2]
    exact Nat.testBit_lt_two_pow (Nat.lt_of_lt_of_le hj (Nat.le_trans (show 2147483648 ≤ 2 ^ 32 by decide) (Nat.pow_le_pow_right (by decide) h1)))
theorem t_onesN {j : Nat} (hj : j < 2147483648) (g : zg_G) (n : zg_N) : PW zm_X6_ones 1 (zE (some (.int (nI (ic (nI j))))) g n) 0 0 0 [(0, .long (nI j).toInt64)] [] g n := by
  rw [← lc_ic hj]; exact t_ones _ g n
theorem t_onesP {q : Nat → Bool} {bt : Nat → Nat → Bool} {m : Nat} (hm : m ≤ 4096) (h : ¬ spPick q bt m = -1) (g : zg_G) (n : zg_N) : PW zm_X6_ones 1 (zE (some (.int (nI (ic (spPick q bt m))))) g n) 0 0 0 [(0, .long (spPick q bt m).toInt64)] [] g n := by
  obtain ⟨j, hj, hh⟩ := spPick_ge hm h
  rw [hh]; exact t_onesN (by omega) g n
abbrev spFit (S : zS) (w : Nat) (b : Nat) : Bool := decide (spTog S (nI b) w ≠ 0)
abbrev spNoFit (S : zS) (w : Nat) (b : Nat) : Bool := decide (spTog S (nI b) w = 0)
abbrev spWh (S : zS) (w : Nat) (b : Nat) : Bool := decide (spWhole S (nI b) w)
abbrev bMore (x y : Nat) : Bool := decide (y < x)
abbrev bLess (x y : Nat) : Bool := decide (x < y)
def spSets (S : zS) (w : Nat) (x : Int32) : Int32 :=
  if x = 0 then nI (ct (spFit S w) (2 ^ sN S 0 1)) else if x = 1 then spPick (spFit S w) bMore (2 ^ sN S 0 1) else if x = 2 then nI (ct (spWh S w) (2 ^ sN S 0 1)) else spPick (spNoFit S w) bLess (2 ^ sN S 0 1)
def sp_sets (S : zS) (w x : Int32) : Int32 × Value × zS := spNeed S (inB w 52 && inB x 4) 1 1 (.int 0) (0, .int (spSets S w.toNatClampNeg x), S)
theorem pow12 {m : Nat} (h : m ≤ 12) : 2 ^ m ≤ 4096 := Nat.le_trans (Nat.pow_le_pow_right (by decide) h) (by decide)
theorem t_sets {g : zg_G} {n : zg_N} {S : zS} (hM : TSh g) (hT : TW n S) (hW : WF S) (w x : Int32) : PW zm_X6_sets 4 (tQ g n (sp_sets S w x)) 0 0 0 [(0, .ref aT), (1, .int w), (2, .int x)] [] g n := by
  have hs := hW.slips
  have hp := pow12 hs
  have hl : ∀ n0, TW n0 S → zfi n0 aT tf_thrown = 0 → zFr tXF tXA n n0 → ∀ w, w < 52 → ∀ k, k ≤ 2 ^ sN S 0 1 → PW zm_X6_sets 4 (tQ g n (0, .int (spSets S w x), S)) 0 0 51 [(0, .ref aT), (1, .int (nI w)), (2, .int x), (3, .int (nI (ct (spFit S w) k))), (4, .int (spPick (spFit S w) bMore k)), (5, .int (nI (ct (spWh S w) k))), (6, .int (spPick (spNoFit S w) bLess k)), (7, .int (nI k))] [] g n0 := by
    intro n0 hT0 hth hf0 w hw
    refine zl_up _ (fun k hk ih => ?_)
    have q0 := ic_le (nI k)
    have q1 := ic_le (spPick (spFit S w) bMore k)
    have q2 := ic_le (spPick (spNoFit S w) bLess k)
    have hT1 : k < 2 ^ sN S 0 1 → spFit S w k = true → ∀ v, v = spPick (spFit S w) bMore (k + 1) → PW zm_X6_sets 4 (tQ g n (0, .int (spSets S w x), S)) 0 0 129 [(0, .ref aT), (1, .int (nI w)), (2, .int x), (3, .int (nI (ct (spFit S w) (k + 1)))), (4, .int (spPick (spFit S w) bMore k)), (5, .int (nI (ct (spWh S w) k))), (6, .int (spPick (spNoFit S w) bLess k)), (7, .int (nI k)), (8, .int 1)] [.int v] g n0 := by
      intro hk1 hq v hv
      have hn : spNoFit S w k = false := by simp only [spFit, spNoFit, decide_eq_true_eq, decide_eq_false_iff_not] at hq ⊢; exact hq
      subst hv
      refine pw_istore (ls' := [(4, _), (0, _), (1, _), (2, _), (3, _), (5, _), (6, _), (7, _), (8, _)]) dX6_sets_129 (by decide) rfl ?_
      refine pw_ls [1, 2, 3, 4, 0, 5, 6, 7, 8] (ls' := [(0, _), (1, _), (2, _), (3, _), (4, _), (5, _), (6, _), (7, _), (8, _)]) rfl ?_
      refine pw_iload dX6_sets_131 8 rfl ?_
      refine pw_if_ne 162 dX6_sets_133 (by decide) (fun c_133 => ?_) (fun c_133 => ?_)
      · refine pw_iload dX6_sets_162 6 rfl ?_
        refine pw_istore (ls' := [(6, _), (0, _), (1, _), (2, _), (3, _), (4, _), (5, _), (7, _), (8, _)]) dX6_sets_164 (by decide) rfl ?_
        refine pw_ls [1, 2, 3, 4, 5, 6, 0, 7, 8] (ls' := [(0, _), (1, _), (2, _), (3, _), (4, _), (5, _), (6, _), (7, _), (8, _)]) rfl ?_
        refine pw_iload dX6_sets_166 5 rfl ?_
        refine pw_iload dX6_sets_168 8 rfl ?_
        refine pw_if_eq 187 dX6_sets_170 (by decide) (fun c_170 => ?_) (fun c_170 => ?_)
        · exact absurd c_170 (by decide)
        · refine pw_aload_n dX6_sets_173 0 rfl rfl ?_
          refine pw_iload dX6_sets_174 7 rfl ?_
          refine pw_iload_n dX6_sets_176 1 rfl rfl ?_
          refine pw_callV2 zmM_X6_isWhole rfl (lw_V q2581 q2583 qs117 q150 q2584) rfl (ts_this hM) zc_X6 (t_isWhole hM hT0 hW _ w hw) (by decide) (Nat.le_refl _) (Nat.le_refl _) rfl (Nat.le_of_ble_eq_true rfl) (Nat.le_of_ble_eq_true rfl) dX6_sets_177 zE.nx (zE_kk ?_)
          refine pw_if_eq_B 187 dX6_sets_180 (by decide) (fun c_180 => ?_) (fun c_180 => ?_)
          · refine pw_iconst (v := 0) dX6_sets_187 (by decide) ?_
            refine pw_iadd dX6_sets_188 ?_
            refine pw_istore (ls' := [(5, _), (0, _), (1, _), (2, _), (3, _), (4, _), (6, _), (7, _), (8, _)]) dX6_sets_189 (by decide) rfl ?_
            refine pw_ls [1, 2, 3, 4, 5, 0, 6, 7, 8] (ls' := [(0, _), (1, _), (2, _), (3, _), (4, _), (5, _), (6, _), (7, _), (8, _)]) rfl ?_
            refine pw_iinc1 (j := 7) (ls' := [(7, _), (0, _), (1, _), (2, _), (3, _), (4, _), (5, _), (6, _), (8, _)]) dX6_sets_191 rfl (by decide) rfl ?_
            refine pw_ls [1, 2, 3, 4, 5, 6, 7, 0, 8] (ls' := [(0, _), (1, _), (2, _), (3, _), (4, _), (5, _), (6, _), (7, _), (8, _)]) rfl ?_
            refine pw_goto 51 dX6_sets_194 (by decide) ?_
            refine pw_ls [0, 1, 2, 3, 4, 5, 6, 7] (ls' := [(0, _), (1, _), (2, _), (3, _), (4, _), (5, _), (6, _), (7, _)]) rfl ?_
            rw [← spPick_no (bt := bLess) hn, show nI (ct (spWh S w) k) + 0 = nI (ct (spWh S w) (k + 1)) from by rw [Int32.add_zero]; simp only [ct, spWh, decide_eq_false c_180]; rfl]; exact ih (k + 1) (by omega) (by omega)
          · refine pw_iconst (v := 1) dX6_sets_183 (by decide) ?_
            refine pw_goto 188 dX6_sets_184 (by decide) ?_
            refine pw_iadd dX6_sets_188 ?_
            refine pw_istore (ls' := [(5, _), (0, _), (1, _), (2, _), (3, _), (4, _), (6, _), (7, _), (8, _)]) dX6_sets_189 (by decide) rfl ?_
            refine pw_ls [1, 2, 3, 4, 5, 0, 6, 7, 8] (ls' := [(0, _), (1, _), (2, _), (3, _), (4, _), (5, _), (6, _), (7, _), (8, _)]) rfl ?_
            refine pw_iinc1 (j := 7) (ls' := [(7, _), (0, _), (1, _), (2, _), (3, _), (4, _), (5, _), (6, _), (8, _)]) dX6_sets_191 rfl (by decide) rfl ?_
            refine pw_ls [1, 2, 3, 4, 5, 6, 7, 0, 8] (ls' := [(0, _), (1, _), (2, _), (3, _), (4, _), (5, _), (6, _), (7, _), (8, _)]) rfl ?_
            refine pw_goto 51 dX6_sets_194 (by decide) ?_
            refine pw_ls [0, 1, 2, 3, 4, 5, 6, 7] (ls' := [(0, _), (1, _), (2, _), (3, _), (4, _), (5, _), (6, _), (7, _)]) rfl ?_
            rw [← spPick_no (bt := bLess) hn, nI_1, show nI (ct (spWh S w) k + 1) = nI (ct (spWh S w) (k + 1)) from by simp only [ct, spWh, decide_eq_true c_180]; rfl]; exact ih (k + 1) (by omega) (by omega)
      · exact absurd c_133 (by decide)
    have hF1 : k < 2 ^ sN S 0 1 → spFit S w k = false → ∀ v, v = spPick (spNoFit S w) bLess (k + 1) → PW zm_X6_sets 4 (tQ g n (0, .int (spSets S w x), S)) 0 0 164 [(0, .ref aT), (1, .int (nI w)), (2, .int x), (3, .int (nI (ct (spFit S w) k))), (4, .int (spPick (spFit S w) bMore k)), (5, .int (nI (ct (spWh S w) k))), (6, .int (spPick (spNoFit S w) bLess k)), (7, .int (nI k)), (8, .int 0)] [.int v] g n0 := by
      intro hk1 hq v hv
      subst hv
      have hnw : spWh S w k = false := by
        simp only [spFit, spWh, decide_eq_false_iff_not, Classical.not_not] at hq ⊢
        exact fun h => h.1 hq
      refine pw_istore (ls' := [(6, _), (0, _), (1, _), (2, _), (3, _), (4, _), (5, _), (7, _), (8, _)]) dX6_sets_164 (by decide) rfl ?_
      refine pw_ls [1, 2, 3, 4, 5, 6, 0, 7, 8] (ls' := [(0, _), (1, _), (2, _), (3, _), (4, _), (5, _), (6, _), (7, _), (8, _)]) rfl ?_
      refine pw_iload dX6_sets_166 5 rfl ?_
      refine pw_iload dX6_sets_168 8 rfl ?_
      refine pw_if_eq 187 dX6_sets_170 (by decide) (fun c_170 => ?_) (fun c_170 => ?_)
      · refine pw_iconst (v := 0) dX6_sets_187 (by decide) ?_
        refine pw_iadd dX6_sets_188 ?_
        refine pw_istore (ls' := [(5, _), (0, _), (1, _), (2, _), (3, _), (4, _), (6, _), (7, _), (8, _)]) dX6_sets_189 (by decide) rfl ?_
        refine pw_ls [1, 2, 3, 4, 5, 0, 6, 7, 8] (ls' := [(0, _), (1, _), (2, _), (3, _), (4, _), (5, _), (6, _), (7, _), (8, _)]) rfl ?_
        refine pw_iinc1 (j := 7) (ls' := [(7, _), (0, _), (1, _), (2, _), (3, _), (4, _), (5, _), (6, _), (8, _)]) dX6_sets_191 rfl (by decide) rfl ?_
        refine pw_ls [1, 2, 3, 4, 5, 6, 7, 0, 8] (ls' := [(0, _), (1, _), (2, _), (3, _), (4, _), (5, _), (6, _), (7, _), (8, _)]) rfl ?_
        refine pw_goto 51 dX6_sets_194 (by decide) ?_
        refine pw_ls [0, 1, 2, 3, 4, 5, 6, 7] (ls' := [(0, _), (1, _), (2, _), (3, _), (4, _), (5, _), (6, _), (7, _)]) rfl ?_
        rw [← spPick_no (bt := bMore) hq, Int32.add_zero, show nI (ct (spWh S w) k) = nI (ct (spWh S w) (k + 1)) from by simp only [ct, hnw]; rfl, show nI (ct (spFit S w) k) = nI (ct (spFit S w) (k + 1)) from by simp only [ct, hq]; rfl]; exact ih (k + 1) (by omega) (by omega)
      · exact absurd rfl c_170
    refine pw_iload dX6_sets_51 7 rfl ?_
    refine pw_iconst (v := 1) dX6_sets_53 (by decide) ?_
    refine pw_aload_n dX6_sets_54 0 rfl rfl ?_
    refine pw_getr 12 zc_X6 (ts_this hM) (by decide) q1998 (Or.inr ⟨_, rfl⟩) (tr_told hM) dX6_sets_55 ?_
    refine pw_iconst (v := 1) dX6_sets_58 (by decide) ?_
    refine pw_iald 1 rfl (ts_told hM) (by decide) (by decide) dX6_sets_59 ?_
    rw [hT0.told (k := 1) (by decide)]
    refine pw_ishl dX6_sets_60 ?_
    rw [ishl1 (by omega)]
    refine pw_icmp_ge_N 197 dX6_sets_61 (by decide) (by omega) (by omega) (fun c_61 => ?_) (fun c_61 => ?_)
    · refine pw_iload_n dX6_sets_197 2 rfl rfl ?_
      refine pw_if_ne 205 dX6_sets_198 (by decide) (fun c_198 => ?_) (fun c_198 => ?_)
      · refine pw_iload_n dX6_sets_205 2 rfl rfl ?_
        refine pw_iconst (v := 1) dX6_sets_206 (by decide) ?_
        refine pw_icmp_ne 215 dX6_sets_207 (by decide) (fun c_207 => ?_) (fun c_207 => ?_)
        · refine pw_iload_n dX6_sets_215 2 rfl rfl ?_
          refine pw_iconst (v := 2) dX6_sets_216 (by decide) ?_
          refine pw_icmp_ne 225 dX6_sets_217 (by decide) (fun c_217 => ?_) (fun c_217 => ?_)
          · refine pw_iload dX6_sets_225 6 rfl ?_
            refine pw_iret rfl dX6_sets_227 ?_
            exact tQ_eq (by rw [spSets, if_neg c_198, if_neg c_207, if_neg c_217, show k = 2 ^ sN S 0 1 by omega]) (t_qok hT0 hth hf0 _)
          · refine pw_iload dX6_sets_220 5 rfl ?_
            refine pw_goto 227 dX6_sets_222 (by decide) ?_
            refine pw_iret rfl dX6_sets_227 ?_
            exact tQ_eq (by rw [spSets, if_neg c_198, if_neg c_207, if_pos c_217, show k = 2 ^ sN S 0 1 by omega]) (t_qok hT0 hth hf0 _)
        · refine pw_iload dX6_sets_210 4 rfl ?_
          refine pw_goto 227 dX6_sets_212 (by decide) ?_
          refine pw_iret rfl dX6_sets_227 ?_
          exact tQ_eq (by rw [spSets, if_neg c_198, if_pos c_207, show k = 2 ^ sN S 0 1 by omega]) (t_qok hT0 hth hf0 _)
      · refine pw_iload_n dX6_sets_201 3 rfl rfl ?_
        refine pw_goto 227 dX6_sets_202 (by decide) ?_
        refine pw_iret rfl dX6_sets_227 ?_
        exact tQ_eq (by rw [spSets, if_pos c_198, show k = 2 ^ sN S 0 1 by omega]) (t_qok hT0 hth hf0 _)
    · refine pw_aload_n dX6_sets_64 0 rfl rfl ?_
      refine pw_iload dX6_sets_65 7 rfl ?_
      refine pw_iload_n dX6_sets_67 1 rfl rfl ?_
      refine pw_callV2 zmM_X6_togetherIn rfl (lw_V q2475 q2477 qs109 q150 q2478) rfl (ts_this hM) zc_X6 (t_togetherIn hM hT0 hW _ w hw) (by decide) (Nat.le_refl _) (Nat.le_refl _) rfl (Nat.le_of_ble_eq_true rfl) (Nat.le_of_ble_eq_true rfl) dX6_sets_68 zE.nx (zE_kk ?_)
      refine pw_lconst (v := 0) dX6_sets_71 rfl ?_
      refine pw_lcmp dX6_sets_72 ?_
      refine pw_if_eq_L 80 dX6_sets_73 (by decide) (fun c_73 => ?_) (fun c_73 => ?_)
      · refine pw_iconst (v := 0) dX6_sets_80 (by decide) ?_
        refine pw_istore (ls' := [(8, _), (0, _), (1, _), (2, _), (3, _), (4, _), (5, _), (6, _), (7, _)]) dX6_sets_81 (by decide) rfl ?_
        refine pw_ls [1, 2, 3, 4, 5, 6, 7, 8, 0] (ls' := [(0, _), (1, _), (2, _), (3, _), (4, _), (5, _), (6, _), (7, _), (8, _)]) rfl ?_
        refine pw_iload_n dX6_sets_83 3 rfl rfl ?_
        refine pw_iload dX6_sets_84 8 rfl ?_
        refine pw_if_eq 93 dX6_sets_86 (by decide) (fun c_86 => ?_) (fun c_86 => ?_)
        · refine pw_iconst (v := 0) dX6_sets_93 (by decide) ?_
          refine pw_iadd dX6_sets_94 ?_
          first | rw [Int32.add_zero] | rw [ct_t (p := spFit S w) (decide_eq_true c_73)]
          refine pw_istore_n (ls' := [(3, _), (0, _), (1, _), (2, _), (4, _), (5, _), (6, _), (7, _), (8, _)]) dX6_sets_95 rfl (by decide) rfl ?_
          refine pw_ls [1, 2, 3, 0, 4, 5, 6, 7, 8] (ls' := [(0, _), (1, _), (2, _), (3, _), (4, _), (5, _), (6, _), (7, _), (8, _)]) rfl ?_
          refine pw_iload dX6_sets_96 8 rfl ?_
          refine pw_if_eq 127 dX6_sets_98 (by decide) (fun c_98 => ?_) (fun c_98 => ?_)
          · refine pw_iload dX6_sets_127 4 rfl ?_
            refine pw_istore (ls' := [(4, _), (0, _), (1, _), (2, _), (3, _), (5, _), (6, _), (7, _), (8, _)]) dX6_sets_129 (by decide) rfl ?_
            refine pw_ls [1, 2, 3, 4, 0, 5, 6, 7, 8] (ls' := [(0, _), (1, _), (2, _), (3, _), (4, _), (5, _), (6, _), (7, _), (8, _)]) rfl ?_
            refine pw_iload dX6_sets_131 8 rfl ?_
            refine pw_if_ne 162 dX6_sets_133 (by decide) (fun c_133 => ?_) (fun c_133 => ?_)
            · exact absurd rfl c_133
            · refine pw_iload dX6_sets_136 6 rfl ?_
              refine pw_iconst (v := (-1)) dX6_sets_138 (by decide) ?_
              refine pw_icmp_eq 157 dX6_sets_139 (by decide) (fun c_139 => ?_) (fun c_139 => ?_)
              · refine pw_iload dX6_sets_157 7 rfl ?_
                refine pw_goto 164 dX6_sets_159 (by decide) ?_
                exact hF1 c_61 (decide_eq_false (fun h => h c_73)) _ (spPick_1 (decide_eq_true c_73) c_139).symm
              · refine pw_iload dX6_sets_142 7 rfl ?_
                refine pw_i2l dX6_sets_144 ?_
                refine pw_callS1 zmM_X6_ones rfl (lw_S q2277 q2278 q150 q2279) (t_onesN (by omega) g n0) (by decide) (Nat.le_refl _) (Nat.le_refl _) rfl (Nat.le_of_ble_eq_true rfl) (Nat.le_of_ble_eq_true rfl) dX6_sets_145 zE.nx (zE_kk ?_)
                refine pw_iload dX6_sets_148 6 rfl ?_
                refine pw_i2l dX6_sets_150 ?_
                refine pw_callS1 zmM_X6_ones rfl (lw_S q2277 q2278 q150 q2279) (t_onesP (by omega) c_139 g n0) (by decide) (Nat.le_refl _) (Nat.le_refl _) rfl (Nat.le_of_ble_eq_true rfl) (Nat.le_of_ble_eq_true rfl) dX6_sets_151 zE.nx (zE_kk ?_)
                refine pw_icmp_ge_N 162 dX6_sets_154 (by decide) (by omega) (by omega) (fun c_154 => ?_) (fun c_154 => ?_)
                · refine pw_iload dX6_sets_162 6 rfl ?_
                  exact hF1 c_61 (decide_eq_false (fun h => h c_73)) _ (spPick_3 c_139 (decide_eq_false (by omega))).symm
                · refine pw_iload dX6_sets_157 7 rfl ?_
                  refine pw_goto 164 dX6_sets_159 (by decide) ?_
                  exact hF1 c_61 (decide_eq_false (fun h => h c_73)) _ (spPick_2 (decide_eq_true c_73) (decide_eq_true c_154)).symm
          · exact absurd rfl c_98
        · exact absurd rfl c_86
      · refine pw_iconst (v := 1) dX6_sets_76 (by decide) ?_
        refine pw_goto 81 dX6_sets_77 (by decide) ?_
        refine pw_istore (ls' := [(8, _), (0, _), (1, _), (2, _), (3, _), (4, _), (5, _), (6, _), (7, _)]) dX6_sets_81 (by decide) rfl ?_
        refine pw_ls [1, 2, 3, 4, 5, 6, 7, 8, 0] (ls' := [(0, _), (1, _), (2, _), (3, _), (4, _), (5, _), (6, _), (7, _), (8, _)]) rfl ?_
        refine pw_iload_n dX6_sets_83 3 rfl rfl ?_
        refine pw_iload dX6_sets_84 8 rfl ?_
        refine pw_if_eq 93 dX6_sets_86 (by decide) (fun c_86 => ?_) (fun c_86 => ?_)
        · exact absurd c_86 (by decide)
        · refine pw_iconst (v := 1) dX6_sets_89 (by decide) ?_
          refine pw_goto 94 dX6_sets_90 (by decide) ?_
          refine pw_iadd dX6_sets_94 ?_
          first | rw [Int32.add_zero] | rw [ct_t (p := spFit S w) (decide_eq_true c_73)]
          refine pw_istore_n (ls' := [(3, _), (0, _), (1, _), (2, _), (4, _), (5, _), (6, _), (7, _), (8, _)]) dX6_sets_95 rfl (by decide) rfl ?_
          refine pw_ls [1, 2, 3, 0, 4, 5, 6, 7, 8] (ls' := [(0, _), (1, _), (2, _), (3, _), (4, _), (5, _), (6, _), (7, _), (8, _)]) rfl ?_
          refine pw_iload dX6_sets_96 8 rfl ?_
          refine pw_if_eq 127 dX6_sets_98 (by decide) (fun c_98 => ?_) (fun c_98 => ?_)
          · exact absurd c_98 (by decide)
          · refine pw_iload dX6_sets_101 4 rfl ?_
            refine pw_iconst (v := (-1)) dX6_sets_103 (by decide) ?_
            refine pw_icmp_eq 122 dX6_sets_104 (by decide) (fun c_104 => ?_) (fun c_104 => ?_)
            · refine pw_iload dX6_sets_122 7 rfl ?_
              refine pw_goto 129 dX6_sets_124 (by decide) ?_
              exact hT1 c_61 (decide_eq_true c_73) _ (spPick_1 (decide_eq_true c_73) c_104).symm
            · refine pw_iload dX6_sets_107 7 rfl ?_
              refine pw_i2l dX6_sets_109 ?_
              refine pw_callS1 zmM_X6_ones rfl (lw_S q2277 q2278 q150 q2279) (t_onesN (by omega) g n0) (by decide) (Nat.le_refl _) (Nat.le_refl _) rfl (Nat.le_of_ble_eq_true rfl) (Nat.le_of_ble_eq_true rfl) dX6_sets_110 zE.nx (zE_kk ?_)
              refine pw_iload dX6_sets_113 4 rfl ?_
              refine pw_i2l dX6_sets_115 ?_
              refine pw_callS1 zmM_X6_ones rfl (lw_S q2277 q2278 q150 q2279) (t_onesP (by omega) c_104 g n0) (by decide) (Nat.le_refl _) (Nat.le_refl _) rfl (Nat.le_of_ble_eq_true rfl) (Nat.le_of_ble_eq_true rfl) dX6_sets_116 zE.nx (zE_kk ?_)
              refine pw_icmp_le_N 127 dX6_sets_119 (by decide) (by omega) (by omega) (fun c_119 => ?_) (fun c_119 => ?_)
              · refine pw_iload dX6_sets_127 4 rfl ?_
                exact hT1 c_61 (decide_eq_true c_73) _ (spPick_3 c_104 (decide_eq_false (by omega))).symm
              · refine pw_iload dX6_sets_122 7 rfl ?_
                refine pw_goto 129 dX6_sets_124 (by decide) ?_
                exact hT1 c_61 (decide_eq_true c_73) _ (spPick_2 (decide_eq_true c_73) (decide_eq_true c_119)).symm
  refine pw_aload_n dX6_sets_0 0 rfl rfl ?_
  refine pw_iconst (v := 0) dX6_sets_1 (by decide) ?_
  refine pw_puti 0 zc_X6 (ts_this hM) (by decide) (by decide) q1986 rfl (Or.inl rfl) rfl rfl dX6_sets_2 ?_
  obtain ⟨hT0, hth, hf0⟩ := t_start hT hW; generalize zpfi n aT 0 0 = n0 at hT0 hth hf0 ⊢
  refine pw_aload_n dX6_sets_5 0 rfl rfl ?_
  refine pw_iload_n dX6_sets_6 1 rfl rfl ?_
  refine pw_callS1 zmM_X6_isWeek rfl (lw_S q2348 q2349 q150 q2350) (t_isWeek w _ _) (by decide) (Nat.le_refl _) (Nat.le_refl _) rfl (Nat.le_of_ble_eq_true rfl) (Nat.le_of_ble_eq_true rfl) dX6_sets_7 zE.nx (zE_kk ?_)
  refine pw_if_eq_B 22 dX6_sets_10 (by decide) (fun c_10 => ?_) (fun c_10 => ?_)
  · refine pw_iconst (v := 1) dX6_sets_22 (by decide) ?_
    refine pw_goto 27 dX6_sets_23 (by decide) ?_
    refine pw_iconst (v := 1) dX6_sets_27 (by decide) ?_
    refine pw_iconst (v := 1) dX6_sets_28 (by decide) ?_
    refine pw_callV3 zmM_X6_bad rfl (lw_V q2188 q2190 qs62 q150 q2191) rfl (ts_this hM) zc_X6 (t_bad1 hM 1 (by decide) 1 (by decide) hth) (by decide) (Nat.le_refl _) (Nat.le_refl _) rfl (Nat.le_of_ble_eq_true rfl) (Nat.le_of_ble_eq_true rfl) dX6_sets_29 zE.nx (zE_kk ?_)
    refine pw_if_eq 37 dX6_sets_32 (by decide) (fun c_32 => ?_) (fun c_32 => ?_)
    · exact absurd c_32 (by decide)
    · refine pw_iconst (v := 0) dX6_sets_35 (by decide) ?_
      refine pw_iret rfl dX6_sets_36 ?_
      exact tQ_eq (spNeed_f (fun h => c_10 (by simp only [Bool.and_eq_true] at h; exact h.1))) (t_qbad hT0 hW hf0 1 1 (by decide) _)
  · refine pw_iload_n dX6_sets_13 2 rfl rfl ?_
    refine pw_iconst (v := 0) dX6_sets_14 (by decide) ?_
    refine pw_iconst (v := 3) dX6_sets_15 (by decide) ?_
    refine pw_callS3 zmM_X6_in rfl (lw_S q2185 q2186 q150 q2187) (t_in _ _ _ _ _) (by decide) (Nat.le_refl _) (Nat.le_refl _) rfl (Nat.le_of_ble_eq_true rfl) (Nat.le_of_ble_eq_true rfl) dX6_sets_16 zE.nx (zE_kk ?_)
    refine pw_if_ne_B 26 dX6_sets_19 (by decide) (fun c_19 => ?_) (fun c_19 => ?_)
    · refine pw_iconst (v := 0) dX6_sets_26 (by decide) ?_
      refine pw_iconst (v := 1) dX6_sets_27 (by decide) ?_
      refine pw_iconst (v := 1) dX6_sets_28 (by decide) ?_
      refine pw_callV3 zmM_X6_bad rfl (lw_V q2188 q2190 qs62 q150 q2191) rfl (ts_this hM) zc_X6 (t_bad0 hM 1 (by decide) 1 (by decide) hth) (by decide) (Nat.le_refl _) (Nat.le_refl _) rfl (Nat.le_of_ble_eq_true rfl) (Nat.le_of_ble_eq_true rfl) dX6_sets_29 zE.nx (zE_kk ?_)
      refine pw_if_eq 37 dX6_sets_32 (by decide) (fun c_32 => ?_) (fun c_32 => ?_)
      · have hok : (inB w 52 && inB x (3 + 1)) = true := by rw [c_10, (inB_le (m := 3) (by decide)).mpr c_19]; rfl
        have hx := (inB_le (m := 3) (by decide)).mpr c_19
        obtain ⟨w, hw, rfl⟩ := inB_ex (by decide) c_10
        refine pw_iconst (v := 0) dX6_sets_37 (by decide) ?_
        refine pw_istore_n (ls' := [(3, _), (0, _), (1, _), (2, _)]) dX6_sets_38 rfl (by decide) rfl ?_
        refine pw_ls [1, 2, 3, 0] (ls' := [(0, _), (1, _), (2, _), (3, _)]) rfl ?_
        refine pw_iconst (v := (-1)) dX6_sets_39 (by decide) ?_
        refine pw_istore (ls' := [(4, _), (0, _), (1, _), (2, _), (3, _)]) dX6_sets_40 (by decide) rfl ?_
        refine pw_ls [1, 2, 3, 4, 0] (ls' := [(0, _), (1, _), (2, _), (3, _), (4, _)]) rfl ?_
        refine pw_iconst (v := 0) dX6_sets_42 (by decide) ?_
        refine pw_istore (ls' := [(5, _), (0, _), (1, _), (2, _), (3, _), (4, _)]) dX6_sets_43 (by decide) rfl ?_
        refine pw_ls [1, 2, 3, 4, 5, 0] (ls' := [(0, _), (1, _), (2, _), (3, _), (4, _), (5, _)]) rfl ?_
        refine pw_iconst (v := (-1)) dX6_sets_45 (by decide) ?_
        refine pw_istore (ls' := [(6, _), (0, _), (1, _), (2, _), (3, _), (4, _), (5, _)]) dX6_sets_46 (by decide) rfl ?_
        refine pw_ls [1, 2, 3, 4, 5, 6, 0] (ls' := [(0, _), (1, _), (2, _), (3, _), (4, _), (5, _), (6, _)]) rfl ?_
        refine pw_iconst (v := 0) dX6_sets_48 (by decide) ?_
        refine pw_istore (ls' := [(7, _), (0, _), (1, _), (2, _), (3, _), (4, _), (5, _), (6, _)]) dX6_sets_49 (by decide) rfl ?_
        refine pw_ls [1, 2, 3, 4, 5, 6, 7, 0] (ls' := [(0, _), (1, _), (2, _), (3, _), (4, _), (5, _), (6, _), (7, _)]) rfl ?_
        have hcl : sp_sets S (nI w) x = (0, .int (spSets S w x), S) := (spNeed_t hok).trans (by rw [nI_clamp (by omega)])
        rw [hcl]
        exact hl n0 hT0 hth hf0 w hw 0 (Nat.zero_le _)
      · exact absurd rfl c_32
    · refine pw_iconst (v := 1) dX6_sets_22 (by decide) ?_
      refine pw_goto 27 dX6_sets_23 (by decide) ?_
      refine pw_iconst (v := 1) dX6_sets_27 (by decide) ?_
      refine pw_iconst (v := 1) dX6_sets_28 (by decide) ?_
      refine pw_callV3 zmM_X6_bad rfl (lw_V q2188 q2190 qs62 q150 q2191) rfl (ts_this hM) zc_X6 (t_bad1 hM 1 (by decide) 1 (by decide) hth) (by decide) (Nat.le_refl _) (Nat.le_refl _) rfl (Nat.le_of_ble_eq_true rfl) (Nat.le_of_ble_eq_true rfl) dX6_sets_29 zE.nx (zE_kk ?_)
      refine pw_if_eq 37 dX6_sets_32 (by decide) (fun c_32 => ?_) (fun c_32 => ?_)
      · exact absurd c_32 (by decide)
      · refine pw_iconst (v := 0) dX6_sets_35 (by decide) ?_
        refine pw_iret rfl dX6_sets_36 ?_
        exact tQ_eq (spNeed_f (fun h => c_19 ((inB_le (m := 3) (by decide)).mp (by simp only [Bool.and_eq_true] at h; exact h.2)))) (t_qbad hT0 hW hf0 1 1 (by decide) _)

/-! ===== the reference: more of sets and worlds ===== -/
/-- the first from k on, of so many to come -/
def spFst (p : Nat → Bool) : Nat → Nat → Int32
  | 0, _ => -1
  | m + 1, k => if p k = true then nI k else spFst p m (k + 1)
theorem spFst_hit {p : Nat → Bool} {N k : Nat} (hk : k < N) (h : p k = true) : spFst p (N - k) k = nI k := by
  rw [show N - k = (N - (k + 1)) + 1 by omega, spFst, if_pos h]
theorem spFst_go {p : Nat → Bool} {N k : Nat} (hk : k < N) (h : p k = false) : spFst p (N - k) k = spFst p (N - (k + 1)) (k + 1) := by
  rw [show N - k = (N - (k + 1)) + 1 by omega, spFst, if_neg (by rw [h]; decide)]
theorem spFst_end {p : Nat → Bool} {N k : Nat} (hk : N ≤ k) : spFst p (N - k) k = -1 := by
  rw [show N - k = 0 by omega]; rfl
abbrev spNth (S : zS) (w : Nat) (x : Int32) (b : Nat) : Bool := spWh S w b && decide (nI (ct (spWh S w) b) = x)
def sp_whole (S : zS) (w x : Int32) : Int32 × Value × zS := spNeed S (inB w 52) 1 1 (.int 0) (0, .int (spFst (spNth S w.toNatClampNeg x) (2 ^ sN S 0 1) 0), S)
theorem t_whole {g : zg_G} {n : zg_N} {S : zS} (hM : TSh g) (hT : TW n S) (hW : WF S) (w x : Int32) : PW zm_X6_whole 4 (tQ g n (sp_whole S w x)) 0 0 0 [(0, .ref aT), (1, .int w), (2, .int x)] [] g n := by
  have hs := hW.slips
  have hp := pow12 hs
  have hl : ∀ n0, TW n0 S → zfi n0 aT tf_thrown = 0 → zFr tXF tXA n n0 → ∀ w, w < 52 → ∀ R : Int32, ∀ k, k ≤ 2 ^ sN S 0 1 → R = spFst (spNth S w x) (2 ^ sN S 0 1 - k) k → PW zm_X6_whole 4 (tQ g n (0, .int R, S)) 0 0 33 [(0, .ref aT), (1, .int (nI w)), (2, .int x), (3, .int (nI (ct (spWh S w) k))), (4, .int (nI k))] [] g n0 := by
    intro n0 hT0 hth hf0 w hw R
    refine zl_up _ (fun k hk ih hR => ?_)
    refine pw_iload dX6_whole_33 4 rfl ?_
    refine pw_iconst (v := 1) dX6_whole_35 (by decide) ?_
    refine pw_aload_n dX6_whole_36 0 rfl rfl ?_
    refine pw_getr 12 zc_X6 (ts_this hM) (by decide) q1998 (Or.inr ⟨_, rfl⟩) (tr_told hM) dX6_whole_37 ?_
    refine pw_iconst (v := 1) dX6_whole_40 (by decide) ?_
    refine pw_iald 1 rfl (ts_told hM) (by decide) (by decide) dX6_whole_41 ?_
    rw [hT0.told (k := 1) (by decide)]
    refine pw_ishl dX6_whole_42 ?_
    rw [ishl1 (by omega)]
    refine pw_icmp_ge_N 76 dX6_whole_43 (by decide) (by omega) (by omega) (fun c_43 => ?_) (fun c_43 => ?_)
    · refine pw_iconst (v := (-1)) dX6_whole_76 (by decide) ?_
      refine pw_iret rfl dX6_whole_77 ?_
      exact tQ_eq (by rw [hR, spFst_end c_43]) (t_qok hT0 hth hf0 _)
    · refine pw_aload_n dX6_whole_46 0 rfl rfl ?_
      refine pw_iload dX6_whole_47 4 rfl ?_
      refine pw_iload_n dX6_whole_49 1 rfl rfl ?_
      refine pw_callV2 zmM_X6_isWhole rfl (lw_V q2581 q2583 qs117 q150 q2584) rfl (ts_this hM) zc_X6 (t_isWhole hM hT0 hW _ w hw) (by decide) (Nat.le_refl _) (Nat.le_refl _) rfl (Nat.le_of_ble_eq_true rfl) (Nat.le_of_ble_eq_true rfl) dX6_whole_50 zE.nx (zE_kk ?_)
      refine pw_if_ne_B 59 dX6_whole_53 (by decide) (fun c_53 => ?_) (fun c_53 => ?_)
      · refine pw_iload_n dX6_whole_59 3 rfl rfl ?_
        refine pw_iload_n dX6_whole_60 2 rfl rfl ?_
        refine pw_icmp_ne 67 dX6_whole_61 (by decide) (fun c_61 => ?_) (fun c_61 => ?_)
        · refine pw_iinc1 (j := 3) (ls' := [(3, _), (0, _), (1, _), (2, _), (4, _)]) dX6_whole_67 rfl (by decide) rfl ?_
          refine pw_ls [1, 2, 3, 0, 4] (ls' := [(0, _), (1, _), (2, _), (3, _), (4, _)]) rfl ?_
          first | rw [show ct (spWh S w) k + 1 = ct (spWh S w) (k + 1) from by simp only [ct, spWh, decide_eq_true c_53]; rfl] | rw [show ct (spWh S w) k = ct (spWh S w) (k + 1) from by simp only [ct, spWh, decide_eq_false c_53]; rfl]
          refine pw_iinc1 (j := 4) (ls' := [(4, _), (0, _), (1, _), (2, _), (3, _)]) dX6_whole_70 rfl (by decide) rfl ?_
          refine pw_ls [1, 2, 3, 4, 0] (ls' := [(0, _), (1, _), (2, _), (3, _), (4, _)]) rfl ?_
          refine pw_goto 33 dX6_whole_73 (by decide) ?_
          exact ih (k + 1) (by omega) (by omega) (hR.trans (spFst_go c_43 (by simp only [spNth, decide_eq_false c_61, Bool.and_false])))
        · refine pw_iload dX6_whole_64 4 rfl ?_
          refine pw_iret rfl dX6_whole_66 ?_
          exact tQ_eq (by rw [hR, spFst_hit c_43 (by simp only [spNth, spWh, decide_eq_true c_53, decide_eq_true c_61]; rfl)]) (t_qok hT0 hth hf0 _)
      · refine pw_goto 70 dX6_whole_56 (by decide) ?_
        first | rw [show ct (spWh S w) k + 1 = ct (spWh S w) (k + 1) from by simp only [ct, spWh, decide_eq_true c_53]; rfl] | rw [show ct (spWh S w) k = ct (spWh S w) (k + 1) from by simp only [ct, spWh, decide_eq_false c_53]; rfl]
        refine pw_iinc1 (j := 4) (ls' := [(4, _), (0, _), (1, _), (2, _), (3, _)]) dX6_whole_70 rfl (by decide) rfl ?_
        refine pw_ls [1, 2, 3, 4, 0] (ls' := [(0, _), (1, _), (2, _), (3, _), (4, _)]) rfl ?_
        refine pw_goto 33 dX6_whole_73 (by decide) ?_
        exact ih (k + 1) (by omega) (by omega) (hR.trans (spFst_go c_43 (by simp only [spNth, spWh, decide_eq_false c_53, Bool.false_and])))
  refine pw_aload_n dX6_whole_0 0 rfl rfl ?_
  refine pw_iconst (v := 0) dX6_whole_1 (by decide) ?_
  refine pw_puti 0 zc_X6 (ts_this hM) (by decide) (by decide) q1986 rfl (Or.inl rfl) rfl rfl dX6_whole_2 ?_
  obtain ⟨hT0, hth, hf0⟩ := t_start hT hW; generalize zpfi n aT 0 0 = n0 at hT0 hth hf0 ⊢
  refine pw_aload_n dX6_whole_5 0 rfl rfl ?_
  refine pw_iload_n dX6_whole_6 1 rfl rfl ?_
  refine pw_callS1 zmM_X6_isWeek rfl (lw_S q2348 q2349 q150 q2350) (t_isWeek w _ _) (by decide) (Nat.le_refl _) (Nat.le_refl _) rfl (Nat.le_of_ble_eq_true rfl) (Nat.le_of_ble_eq_true rfl) dX6_whole_7 zE.nx (zE_kk ?_)
  refine pw_if_ne_B 17 dX6_whole_10 (by decide) (fun c_10 => ?_) (fun c_10 => ?_)
  · refine pw_iconst (v := 0) dX6_whole_17 (by decide) ?_
    refine pw_iconst (v := 1) dX6_whole_18 (by decide) ?_
    refine pw_iconst (v := 1) dX6_whole_19 (by decide) ?_
    refine pw_callV3 zmM_X6_bad rfl (lw_V q2188 q2190 qs62 q150 q2191) rfl (ts_this hM) zc_X6 (t_bad0 hM 1 (by decide) 1 (by decide) hth) (by decide) (Nat.le_refl _) (Nat.le_refl _) rfl (Nat.le_of_ble_eq_true rfl) (Nat.le_of_ble_eq_true rfl) dX6_whole_20 zE.nx (zE_kk ?_)
    refine pw_if_eq 28 dX6_whole_23 (by decide) (fun c_23 => ?_) (fun c_23 => ?_)
    · obtain ⟨w, hw, rfl⟩ := inB_ex (by decide) c_10
      refine pw_iconst (v := 0) dX6_whole_28 (by decide) ?_
      refine pw_istore_n (ls' := [(3, _), (0, _), (1, _), (2, _)]) dX6_whole_29 rfl (by decide) rfl ?_
      refine pw_ls [1, 2, 3, 0] (ls' := [(0, _), (1, _), (2, _), (3, _)]) rfl ?_
      refine pw_iconst (v := 0) dX6_whole_30 (by decide) ?_
      refine pw_istore (ls' := [(4, _), (0, _), (1, _), (2, _), (3, _)]) dX6_whole_31 (by decide) rfl ?_
      refine pw_ls [1, 2, 3, 4, 0] (ls' := [(0, _), (1, _), (2, _), (3, _), (4, _)]) rfl ?_
      have hcl : sp_whole S (nI w) x = (0, .int (spFst (spNth S w x) (2 ^ sN S 0 1) 0), S) := (spNeed_t c_10).trans (by rw [nI_clamp (by omega)])
      rw [hcl]
      exact hl n0 hT0 hth hf0 w hw _ 0 (Nat.zero_le _) rfl
    · exact absurd rfl c_23
  · refine pw_iconst (v := 1) dX6_whole_13 (by decide) ?_
    refine pw_goto 18 dX6_whole_14 (by decide) ?_
    refine pw_iconst (v := 1) dX6_whole_18 (by decide) ?_
    refine pw_iconst (v := 1) dX6_whole_19 (by decide) ?_
    refine pw_callV3 zmM_X6_bad rfl (lw_V q2188 q2190 qs62 q150 q2191) rfl (ts_this hM) zc_X6 (t_bad1 hM 1 (by decide) 1 (by decide) hth) (by decide) (Nat.le_refl _) (Nat.le_refl _) rfl (Nat.le_of_ble_eq_true rfl) (Nat.le_of_ble_eq_true rfl) dX6_whole_20 zE.nx (zE_kk ?_)
    refine pw_if_eq 28 dX6_whole_23 (by decide) (fun c_23 => ?_) (fun c_23 => ?_)
    · exact absurd c_23 (by decide)
    · refine pw_iconst (v := 0) dX6_whole_26 (by decide) ?_
      refine pw_iret rfl dX6_whole_27 ?_
      exact tQ_eq (spNeed_f c_10) (t_qbad hT0 hW hf0 1 1 (by decide) _)
abbrev spPrf (S : zS) (w b : Nat) : Bool := decide (spTog S (nI b) w ≠ 0) && decide (spTog S (nI b) w &&& (sL S 3 0 ^^^ -1) = 0)
def sp_proof (S : zS) (w : Int32) : Int32 × Value × zS := spNeed S (inB w 52) 1 1 (.int 0) (0, .int (spPick (spPrf S w.toNatClampNeg) bLess (2 ^ sN S 0 1)), S)
theorem t_proof {g : zg_G} {n : zg_N} {S : zS} (hM : TSh g) (hT : TW n S) (hW : WF S) (w : Int32) : PW zm_X6_proof 4 (tQ g n (sp_proof S w)) 0 0 0 [(0, .ref aT), (1, .int w)] [] g n := by
  have hs := hW.slips
  have hp := pow12 hs
  have hl : ∀ n0, TW n0 S → zfi n0 aT tf_thrown = 0 → zFr tXF tXA n n0 → ∀ w, w < 52 → ∀ k, k ≤ 2 ^ sN S 0 1 → PW zm_X6_proof 4 (tQ g n (0, .int (spPick (spPrf S w) bLess (2 ^ sN S 0 1)), S)) 0 0 32 [(0, .ref aT), (1, .int (nI w)), (2, .int (spPick (spPrf S w) bLess k)), (3, .int (nI k))] [] g n0 := by
    intro n0 hT0 hth hf0 w hw
    refine zl_up _ (fun k hk ih => ?_)
    have q0 := ic_le (nI k)
    have q1 := ic_le (spPick (spPrf S w) bLess k)
    refine pw_iload_n dX6_proof_32 3 rfl rfl ?_
    refine pw_iconst (v := 1) dX6_proof_33 (by decide) ?_
    refine pw_aload_n dX6_proof_34 0 rfl rfl ?_
    refine pw_getr 12 zc_X6 (ts_this hM) (by decide) q1998 (Or.inr ⟨_, rfl⟩) (tr_told hM) dX6_proof_35 ?_
    refine pw_iconst (v := 1) dX6_proof_38 (by decide) ?_
    refine pw_iald 1 rfl (ts_told hM) (by decide) (by decide) dX6_proof_39 ?_
    rw [hT0.told (k := 1) (by decide)]
    refine pw_ishl dX6_proof_40 ?_
    rw [ishl1 (by omega)]
    refine pw_icmp_ge_N 104 dX6_proof_41 (by decide) (by omega) (by omega) (fun c_41 => ?_) (fun c_41 => ?_)
    · refine pw_iload_n dX6_proof_104 2 rfl rfl ?_
      refine pw_iret rfl dX6_proof_105 ?_
      exact tQ_eq (by rw [show k = 2 ^ sN S 0 1 by omega]) (t_qok hT0 hth hf0 _)
    · refine pw_aload_n dX6_proof_44 0 rfl rfl ?_
      refine pw_iload_n dX6_proof_45 3 rfl rfl ?_
      refine pw_iload_n dX6_proof_46 1 rfl rfl ?_
      refine pw_callV2 zmM_X6_togetherIn rfl (lw_V q2475 q2477 qs109 q150 q2478) rfl (ts_this hM) zc_X6 (t_togetherIn hM hT0 hW _ w hw) (by decide) (Nat.le_refl _) (Nat.le_refl _) rfl (Nat.le_of_ble_eq_true rfl) (Nat.le_of_ble_eq_true rfl) dX6_proof_47 zE.nx (zE_kk ?_)
      refine pw_lstore (ls' := [(4, _), (0, _), (1, _), (2, _), (3, _)]) dX6_proof_50 (by decide) rfl ?_
      refine pw_ls [1, 2, 3, 4, 0] (ls' := [(0, _), (1, _), (2, _), (3, _), (4, _)]) rfl ?_
      refine pw_lload dX6_proof_52 4 rfl ?_
      refine pw_lconst (v := 0) dX6_proof_54 rfl ?_
      refine pw_lcmp dX6_proof_55 ?_
      refine pw_if_eq_L 98 dX6_proof_56 (by decide) (fun c_56 => ?_) (fun c_56 => ?_)
      · refine pw_iinc1 (j := 3) (ls' := [(3, _), (0, _), (1, _), (2, _), (4, _)]) dX6_proof_98 rfl (by decide) rfl ?_
        refine pw_ls [1, 2, 3, 0, 4] (ls' := [(0, _), (1, _), (2, _), (3, _), (4, _)]) rfl ?_
        refine pw_goto 32 dX6_proof_101 (by decide) ?_
        refine pw_ls [0, 1, 2, 3] (ls' := [(0, _), (1, _), (2, _), (3, _)]) rfl ?_
        rw [← spPick_no (q := spPrf S w) (bt := bLess) (m := k) (by simp only [spPrf, c_56]; rfl)]; exact ih (k + 1) (by omega) (by omega)
      · refine pw_lload dX6_proof_59 4 rfl ?_
        refine pw_aload_n dX6_proof_61 0 rfl rfl ?_
        refine pw_getl 20 zc_X6 (ts_this hM) (by decide) q2006 rfl dX6_proof_62 ?_
        rw [hT0.qu]
        refine pw_ldc2 q1972 dX6_proof_65 ?_
        refine pw_lxor dX6_proof_68 ?_
        refine pw_land dX6_proof_69 ?_
        refine pw_lconst (v := 0) dX6_proof_70 rfl ?_
        refine pw_lcmp dX6_proof_71 ?_
        refine pw_if_ne_L 98 dX6_proof_72 (by decide) (fun c_72 => ?_) (fun c_72 => ?_)
        · refine pw_iinc1 (j := 3) (ls' := [(3, _), (0, _), (1, _), (2, _), (4, _)]) dX6_proof_98 rfl (by decide) rfl ?_
          refine pw_ls [1, 2, 3, 0, 4] (ls' := [(0, _), (1, _), (2, _), (3, _), (4, _)]) rfl ?_
          refine pw_goto 32 dX6_proof_101 (by decide) ?_
          refine pw_ls [0, 1, 2, 3] (ls' := [(0, _), (1, _), (2, _), (3, _)]) rfl ?_
          rw [← spPick_no (q := spPrf S w) (bt := bLess) (m := k) (by simp only [spPrf, decide_eq_false c_72, Bool.and_false])]; exact ih (k + 1) (by omega) (by omega)
        · refine pw_iload_n dX6_proof_75 2 rfl rfl ?_
          refine pw_iconst (v := (-1)) dX6_proof_76 (by decide) ?_
          refine pw_icmp_eq 96 dX6_proof_77 (by decide) (fun c_77 => ?_) (fun c_77 => ?_)
          · refine pw_iload_n dX6_proof_96 3 rfl rfl ?_
            refine pw_istore_n (ls' := [(2, _), (0, _), (1, _), (3, _), (4, _)]) dX6_proof_97 rfl (by decide) rfl ?_
            refine pw_ls [1, 2, 0, 3, 4] (ls' := [(0, _), (1, _), (2, _), (3, _), (4, _)]) rfl ?_
            refine pw_iinc1 (j := 3) (ls' := [(3, _), (0, _), (1, _), (2, _), (4, _)]) dX6_proof_98 rfl (by decide) rfl ?_
            refine pw_ls [1, 2, 3, 0, 4] (ls' := [(0, _), (1, _), (2, _), (3, _), (4, _)]) rfl ?_
            refine pw_goto 32 dX6_proof_101 (by decide) ?_
            refine pw_ls [0, 1, 2, 3] (ls' := [(0, _), (1, _), (2, _), (3, _)]) rfl ?_
            rw [show nI k = spPick (spPrf S w) bLess (k + 1) from (spPick_1 (by simp only [spPrf, decide_eq_true c_56, decide_eq_true c_72]; rfl) c_77).symm]; exact ih (k + 1) (by omega) (by omega)
          · refine pw_iload_n dX6_proof_80 3 rfl rfl ?_
            refine pw_i2l dX6_proof_81 ?_
            refine pw_callS1 zmM_X6_ones rfl (lw_S q2277 q2278 q150 q2279) (t_onesN (by omega) g n0) (by decide) (Nat.le_refl _) (Nat.le_refl _) rfl (Nat.le_of_ble_eq_true rfl) (Nat.le_of_ble_eq_true rfl) dX6_proof_82 zE.nx (zE_kk ?_)
            refine pw_iload_n dX6_proof_85 2 rfl rfl ?_
            refine pw_i2l dX6_proof_86 ?_
            refine pw_callS1 zmM_X6_ones rfl (lw_S q2277 q2278 q150 q2279) (t_onesP (by omega) c_77 g n0) (by decide) (Nat.le_refl _) (Nat.le_refl _) rfl (Nat.le_of_ble_eq_true rfl) (Nat.le_of_ble_eq_true rfl) dX6_proof_87 zE.nx (zE_kk ?_)
            refine pw_icmp_lt_N 96 dX6_proof_90 (by decide) (by omega) (by omega) (fun c_90 => ?_) (fun c_90 => ?_)
            · refine pw_iload_n dX6_proof_96 3 rfl rfl ?_
              refine pw_istore_n (ls' := [(2, _), (0, _), (1, _), (3, _), (4, _)]) dX6_proof_97 rfl (by decide) rfl ?_
              refine pw_ls [1, 2, 0, 3, 4] (ls' := [(0, _), (1, _), (2, _), (3, _), (4, _)]) rfl ?_
              refine pw_iinc1 (j := 3) (ls' := [(3, _), (0, _), (1, _), (2, _), (4, _)]) dX6_proof_98 rfl (by decide) rfl ?_
              refine pw_ls [1, 2, 3, 0, 4] (ls' := [(0, _), (1, _), (2, _), (3, _), (4, _)]) rfl ?_
              refine pw_goto 32 dX6_proof_101 (by decide) ?_
              refine pw_ls [0, 1, 2, 3] (ls' := [(0, _), (1, _), (2, _), (3, _)]) rfl ?_
              rw [show nI k = spPick (spPrf S w) bLess (k + 1) from (spPick_2 (by simp only [spPrf, decide_eq_true c_56, decide_eq_true c_72]; rfl) (decide_eq_true c_90)).symm]; exact ih (k + 1) (by omega) (by omega)
            · refine pw_goto 98 dX6_proof_93 (by decide) ?_
              refine pw_iinc1 (j := 3) (ls' := [(3, _), (0, _), (1, _), (2, _), (4, _)]) dX6_proof_98 rfl (by decide) rfl ?_
              refine pw_ls [1, 2, 3, 0, 4] (ls' := [(0, _), (1, _), (2, _), (3, _), (4, _)]) rfl ?_
              refine pw_goto 32 dX6_proof_101 (by decide) ?_
              refine pw_ls [0, 1, 2, 3] (ls' := [(0, _), (1, _), (2, _), (3, _)]) rfl ?_
              rw [← spPick_3 (q := spPrf S w) (bt := bLess) (m := k) c_77 (decide_eq_false (by omega))]; exact ih (k + 1) (by omega) (by omega)
  refine pw_aload_n dX6_proof_0 0 rfl rfl ?_
  refine pw_iconst (v := 0) dX6_proof_1 (by decide) ?_
  refine pw_puti 0 zc_X6 (ts_this hM) (by decide) (by decide) q1986 rfl (Or.inl rfl) rfl rfl dX6_proof_2 ?_
  obtain ⟨hT0, hth, hf0⟩ := t_start hT hW; generalize zpfi n aT 0 0 = n0 at hT0 hth hf0 ⊢
  refine pw_aload_n dX6_proof_5 0 rfl rfl ?_
  refine pw_iload_n dX6_proof_6 1 rfl rfl ?_
  refine pw_callS1 zmM_X6_isWeek rfl (lw_S q2348 q2349 q150 q2350) (t_isWeek w _ _) (by decide) (Nat.le_refl _) (Nat.le_refl _) rfl (Nat.le_of_ble_eq_true rfl) (Nat.le_of_ble_eq_true rfl) dX6_proof_7 zE.nx (zE_kk ?_)
  refine pw_if_ne_B 17 dX6_proof_10 (by decide) (fun c_10 => ?_) (fun c_10 => ?_)
  · refine pw_iconst (v := 0) dX6_proof_17 (by decide) ?_
    refine pw_iconst (v := 1) dX6_proof_18 (by decide) ?_
    refine pw_iconst (v := 1) dX6_proof_19 (by decide) ?_
    refine pw_callV3 zmM_X6_bad rfl (lw_V q2188 q2190 qs62 q150 q2191) rfl (ts_this hM) zc_X6 (t_bad0 hM 1 (by decide) 1 (by decide) hth) (by decide) (Nat.le_refl _) (Nat.le_refl _) rfl (Nat.le_of_ble_eq_true rfl) (Nat.le_of_ble_eq_true rfl) dX6_proof_20 zE.nx (zE_kk ?_)
    refine pw_if_eq 28 dX6_proof_23 (by decide) (fun c_23 => ?_) (fun c_23 => ?_)
    · obtain ⟨w, hw, rfl⟩ := inB_ex (by decide) c_10
      refine pw_iconst (v := (-1)) dX6_proof_28 (by decide) ?_
      refine pw_istore_n (ls' := [(2, _), (0, _), (1, _)]) dX6_proof_29 rfl (by decide) rfl ?_
      refine pw_ls [1, 2, 0] (ls' := [(0, _), (1, _), (2, _)]) rfl ?_
      refine pw_iconst (v := 0) dX6_proof_30 (by decide) ?_
      refine pw_istore_n (ls' := [(3, _), (0, _), (1, _), (2, _)]) dX6_proof_31 rfl (by decide) rfl ?_
      refine pw_ls [1, 2, 3, 0] (ls' := [(0, _), (1, _), (2, _), (3, _)]) rfl ?_
      have hcl : sp_proof S (nI w) = (0, .int (spPick (spPrf S w) bLess (2 ^ sN S 0 1)), S) := (spNeed_t c_10).trans (by rw [nI_clamp (by omega)])
      rw [hcl]
      exact hl n0 hT0 hth hf0 w hw 0 (Nat.zero_le _)
    · exact absurd rfl c_23
  · refine pw_iconst (v := 1) dX6_proof_13 (by decide) ?_
    refine pw_goto 18 dX6_proof_14 (by decide) ?_
    refine pw_iconst (v := 1) dX6_proof_18 (by decide) ?_
    refine pw_iconst (v := 1) dX6_proof_19 (by decide) ?_
    refine pw_callV3 zmM_X6_bad rfl (lw_V q2188 q2190 qs62 q150 q2191) rfl (ts_this hM) zc_X6 (t_bad1 hM 1 (by decide) 1 (by decide) hth) (by decide) (Nat.le_refl _) (Nat.le_refl _) rfl (Nat.le_of_ble_eq_true rfl) (Nat.le_of_ble_eq_true rfl) dX6_proof_20 zE.nx (zE_kk ?_)
    refine pw_if_eq 28 dX6_proof_23 (by decide) (fun c_23 => ?_) (fun c_23 => ?_)
    · exact absurd c_23 (by decide)
    · refine pw_iconst (v := 0) dX6_proof_26 (by decide) ?_
      refine pw_iret rfl dX6_proof_27 ?_
      exact tQ_eq (spNeed_f c_10) (t_qbad hT0 hW hf0 1 1 (by decide) _)
theorem ct_mono {p q : Nat → Bool} : ∀ {n : Nat}, (∀ k, k < n → p k = true → q k = true) → ct p n ≤ ct q n
  | 0, _ => Nat.le_refl _
  | n + 1, h => by
    have := ct_mono (n := n) (fun k hk => h k (by omega))
    simp only [ct]
    cases hp : p n
    · cases q n <;> simp <;> omega
    · rw [h n (by omega) hp]; simp; omega
theorem lc_and (x y : Int64) : lc (x &&& y) ≤ lc x := ct_mono (fun k _ h => by rw [lb_and, Bool.and_eq_true] at h; exact h.1)
theorem nI_sub {a b : Nat} (h : b ≤ a) : nI a - nI b = nI (a - b) := by
  have : nI a = nI (a - b) + nI b := by rw [nI_add]; congr 1; omega
  rw [this, Int32.add_sub_cancel]
def spSv (S : zS) (w a : Nat) : Nat := if lc (sL S 2 w &&& wAt a (sN S 0 0)) ≤ lc (sL S 2 w) - lc (sL S 2 w &&& wAt a (sN S 0 0)) then lc (sL S 2 w) - lc (sL S 2 w &&& wAt a (sN S 0 0)) else lc (sL S 2 w &&& wAt a (sN S 0 0))
theorem spSv_le (S : zS) (w a : Nat) : spSv S w a ≤ 64 := by
  have := lc_le (sL S 2 w)
  have := lc_le (sL S 2 w &&& wAt a (sN S 0 0))
  unfold spSv; split <;> omega
def spSp (S : zS) (w : Nat) : Nat → Int32 × Nat
  | 0 => (-1, 0)
  | a + 1 => if ¬ (spSp S w a).1 = -1 ∧ (spSp S w a).2 ≤ spSv S w a then spSp S w a else (nI a, spSv S w a)
theorem spSp_le (S : zS) (w : Nat) : ∀ a, (spSp S w a).2 ≤ 64
  | 0 => by show 0 ≤ 64; decide
  | a + 1 => by
    rw [spSp]; split
    · exact spSp_le S w a
    · exact spSv_le S w a
def sp_split (S : zS) (w x : Int32) : Int32 × Value × zS := spNeed S (inB w 52 && inB x 2) 1 1 (.int 0) (0, .int (if x = 0 then (spSp S w.toNatClampNeg (sN S 0 0)).1 else nI (spSp S w.toNatClampNeg (sN S 0 0)).2), S)
theorem t_split {g : zg_G} {n : zg_N} {S : zS} (hM : TSh g) (hT : TW n S) (hW : WF S) (w x : Int32) : PW zm_X6_split 4 (tQ g n (sp_split S w x)) 0 0 0 [(0, .ref aT), (1, .int w), (2, .int x)] [] g n := by
  have h6 := hW.atoms.2
  have hl : ∀ n0, TW n0 S → zfi n0 aT tf_thrown = 0 → zFr tXF tXA n n0 → ∀ w, w < 52 → ∀ k, k ≤ sN S 0 0 → PW zm_X6_split 4 (tQ g n (0, .int (if x = 0 then (spSp S w (sN S 0 0)).1 else nI (spSp S w (sN S 0 0)).2), S)) 0 0 45 [(0, .ref aT), (1, .int (nI w)), (2, .int x), (3, .int (spSp S w k).1), (4, .int (nI (spSp S w k).2)), (5, .int (nI k))] [] g n0 := by
    intro n0 hT0 hth hf0 w hw
    refine zl_up _ (fun k hk ih => ?_)
    have q0 := spSv_le S w k
    have q1 := spSp_le S w k
    have q2 := lc_and (sL S 2 w) (wAt k (sN S 0 0))
    have q3 := lc_le (sL S 2 w)
    have h107 : k < sN S 0 0 → ∀ z1 z2 : Int32, ∀ v, v = nI (spSv S w k) → PW zm_X6_split 4 (tQ g n (0, .int (if x = 0 then (spSp S w (sN S 0 0)).1 else nI (spSp S w (sN S 0 0)).2), S)) 0 0 107 [(0, .ref aT), (1, .int (nI w)), (2, .int x), (3, .int (spSp S w k).1), (4, .int (nI (spSp S w k).2)), (5, .int (nI k)), (6, .int z1), (7, .int z2)] [.int v] g n0 := by
      intro hk z1 z2 v hv
      subst hv
      refine pw_istore (ls' := [(8, _), (0, _), (1, _), (2, _), (3, _), (4, _), (5, _), (6, _), (7, _)]) dX6_split_107 (by decide) rfl ?_
      refine pw_ls [1, 2, 3, 4, 5, 6, 7, 8, 0] (ls' := [(0, _), (1, _), (2, _), (3, _), (4, _), (5, _), (6, _), (7, _), (8, _)]) rfl ?_
      refine pw_iload_n dX6_split_109 3 rfl rfl ?_
      refine pw_iconst (v := (-1)) dX6_split_110 (by decide) ?_
      refine pw_icmp_eq 124 dX6_split_111 (by decide) (fun c_111 => ?_) (fun c_111 => ?_)
      · refine pw_iload dX6_split_124 5 rfl ?_
        refine pw_istore_n (ls' := [(3, _), (0, _), (1, _), (2, _), (4, _), (5, _), (6, _), (7, _), (8, _)]) dX6_split_126 rfl (by decide) rfl ?_
        refine pw_ls [1, 2, 3, 0, 4, 5, 6, 7, 8] (ls' := [(0, _), (1, _), (2, _), (3, _), (4, _), (5, _), (6, _), (7, _), (8, _)]) rfl ?_
        refine pw_iload dX6_split_127 8 rfl ?_
        refine pw_istore (ls' := [(4, _), (0, _), (1, _), (2, _), (3, _), (5, _), (6, _), (7, _), (8, _)]) dX6_split_129 (by decide) rfl ?_
        refine pw_ls [1, 2, 3, 4, 0, 5, 6, 7, 8] (ls' := [(0, _), (1, _), (2, _), (3, _), (4, _), (5, _), (6, _), (7, _), (8, _)]) rfl ?_
        refine pw_iinc1 (j := 5) (ls' := [(5, _), (0, _), (1, _), (2, _), (3, _), (4, _), (6, _), (7, _), (8, _)]) dX6_split_131 rfl (by decide) rfl ?_
        refine pw_ls [1, 2, 3, 4, 5, 0, 6, 7, 8] (ls' := [(0, _), (1, _), (2, _), (3, _), (4, _), (5, _), (6, _), (7, _), (8, _)]) rfl ?_
        refine pw_goto 45 dX6_split_134 (by decide) ?_
        refine pw_ls [0, 1, 2, 3, 4, 5] (ls' := [(0, _), (1, _), (2, _), (3, _), (4, _), (5, _)]) rfl ?_
        have := ih (k + 1) (by omega) (by omega)
        rw [show spSp S w (k + 1) = (nI k, spSv S w k) from if_neg (fun z => z.1 c_111)] at this
        exact this
      · refine pw_iload dX6_split_114 8 rfl ?_
        refine pw_iload dX6_split_116 4 rfl ?_
        refine pw_icmp_lt_N 124 dX6_split_118 (by decide) (by omega) (by omega) (fun c_118 => ?_) (fun c_118 => ?_)
        · refine pw_iload dX6_split_124 5 rfl ?_
          refine pw_istore_n (ls' := [(3, _), (0, _), (1, _), (2, _), (4, _), (5, _), (6, _), (7, _), (8, _)]) dX6_split_126 rfl (by decide) rfl ?_
          refine pw_ls [1, 2, 3, 0, 4, 5, 6, 7, 8] (ls' := [(0, _), (1, _), (2, _), (3, _), (4, _), (5, _), (6, _), (7, _), (8, _)]) rfl ?_
          refine pw_iload dX6_split_127 8 rfl ?_
          refine pw_istore (ls' := [(4, _), (0, _), (1, _), (2, _), (3, _), (5, _), (6, _), (7, _), (8, _)]) dX6_split_129 (by decide) rfl ?_
          refine pw_ls [1, 2, 3, 4, 0, 5, 6, 7, 8] (ls' := [(0, _), (1, _), (2, _), (3, _), (4, _), (5, _), (6, _), (7, _), (8, _)]) rfl ?_
          refine pw_iinc1 (j := 5) (ls' := [(5, _), (0, _), (1, _), (2, _), (3, _), (4, _), (6, _), (7, _), (8, _)]) dX6_split_131 rfl (by decide) rfl ?_
          refine pw_ls [1, 2, 3, 4, 5, 0, 6, 7, 8] (ls' := [(0, _), (1, _), (2, _), (3, _), (4, _), (5, _), (6, _), (7, _), (8, _)]) rfl ?_
          refine pw_goto 45 dX6_split_134 (by decide) ?_
          refine pw_ls [0, 1, 2, 3, 4, 5] (ls' := [(0, _), (1, _), (2, _), (3, _), (4, _), (5, _)]) rfl ?_
          have := ih (k + 1) (by omega) (by omega)
          rw [show spSp S w (k + 1) = (nI k, spSv S w k) from if_neg (fun z => absurd z.2 (by omega))] at this
          exact this
        · refine pw_goto 131 dX6_split_121 (by decide) ?_
          refine pw_iinc1 (j := 5) (ls' := [(5, _), (0, _), (1, _), (2, _), (3, _), (4, _), (6, _), (7, _), (8, _)]) dX6_split_131 rfl (by decide) rfl ?_
          refine pw_ls [1, 2, 3, 4, 5, 0, 6, 7, 8] (ls' := [(0, _), (1, _), (2, _), (3, _), (4, _), (5, _), (6, _), (7, _), (8, _)]) rfl ?_
          refine pw_goto 45 dX6_split_134 (by decide) ?_
          refine pw_ls [0, 1, 2, 3, 4, 5] (ls' := [(0, _), (1, _), (2, _), (3, _), (4, _), (5, _)]) rfl ?_
          have := ih (k + 1) (by omega) (by omega)
          rw [show spSp S w (k + 1) = spSp S w k from if_pos ⟨c_111, c_118⟩] at this
          exact this
    refine pw_iload dX6_split_45 5 rfl ?_
    refine pw_aload_n dX6_split_47 0 rfl rfl ?_
    refine pw_getr 12 zc_X6 (ts_this hM) (by decide) q1998 (Or.inr ⟨_, rfl⟩) (tr_told hM) dX6_split_48 ?_
    refine pw_iconst (v := 0) dX6_split_51 (by decide) ?_
    refine pw_iald 0 rfl (ts_told hM) (by decide) (by decide) dX6_split_52 ?_
    rw [hT0.told (k := 0) (by decide)]
    refine pw_icmp_ge_N 137 dX6_split_53 (by decide) (by omega) (by omega) (fun c_53 => ?_) (fun c_53 => ?_)
    · refine pw_iload_n dX6_split_137 2 rfl rfl ?_
      refine pw_if_ne 145 dX6_split_138 (by decide) (fun c_138 => ?_) (fun c_138 => ?_)
      · refine pw_iload dX6_split_145 4 rfl ?_
        refine pw_iret rfl dX6_split_147 ?_
        exact tQ_eq (by rw [if_neg c_138, show k = sN S 0 0 by omega]) (t_qok hT0 hth hf0 _)
      · refine pw_iload_n dX6_split_141 3 rfl rfl ?_
        refine pw_goto 147 dX6_split_142 (by decide) ?_
        refine pw_iret rfl dX6_split_147 ?_
        exact tQ_eq (by rw [if_pos c_138, show k = sN S 0 0 by omega]) (t_qok hT0 hth hf0 _)
    · refine pw_aload_n dX6_split_56 0 rfl rfl ?_
      refine pw_getr 19 zc_X6 (ts_this hM) (by decide) q2005 (Or.inr ⟨_, rfl⟩) (tr_leftIn hM) dX6_split_57 ?_
      refine pw_iload_n dX6_split_60 1 rfl rfl ?_
      refine pw_lald _ rfl (ts_leftIn hM) (by omega) (by decide) dX6_split_61 ?_
      rw [hT0.lf hw]
      refine pw_iload dX6_split_62 5 rfl ?_
      refine pw_aload_n dX6_split_64 0 rfl rfl ?_
      refine pw_getr 12 zc_X6 (ts_this hM) (by decide) q1998 (Or.inr ⟨_, rfl⟩) (tr_told hM) dX6_split_65 ?_
      refine pw_iconst (v := 0) dX6_split_68 (by decide) ?_
      refine pw_iald 0 rfl (ts_told hM) (by decide) (by decide) dX6_split_69 ?_
      rw [hT0.told (k := 0) (by decide)]
      refine pw_callS2 zmM_X6_atomOf rfl (lw_S q2270 q2271 q150 q2272) (t_atomOf k _ (by omega) h6 g n0) (by decide) (Nat.le_refl _) (Nat.le_refl _) rfl (Nat.le_of_ble_eq_true rfl) (Nat.le_of_ble_eq_true rfl) dX6_split_70 zE.nx (zE_kk ?_)
      refine pw_land dX6_split_73 ?_
      refine pw_callS1 zmM_X6_ones rfl (lw_S q2277 q2278 q150 q2279) (t_ones _ g n0) (by decide) (Nat.le_refl _) (Nat.le_refl _) rfl (Nat.le_of_ble_eq_true rfl) (Nat.le_of_ble_eq_true rfl) dX6_split_74 zE.nx (zE_kk ?_)
      refine pw_istore (ls' := [(6, _), (0, _), (1, _), (2, _), (3, _), (4, _), (5, _)]) dX6_split_77 (by decide) rfl ?_
      refine pw_ls [1, 2, 3, 4, 5, 6, 0] (ls' := [(0, _), (1, _), (2, _), (3, _), (4, _), (5, _), (6, _)]) rfl ?_
      refine pw_aload_n dX6_split_79 0 rfl rfl ?_
      refine pw_getr 19 zc_X6 (ts_this hM) (by decide) q2005 (Or.inr ⟨_, rfl⟩) (tr_leftIn hM) dX6_split_80 ?_
      refine pw_iload_n dX6_split_83 1 rfl rfl ?_
      refine pw_lald _ rfl (ts_leftIn hM) (by omega) (by decide) dX6_split_84 ?_
      rw [hT0.lf hw]
      refine pw_callS1 zmM_X6_ones rfl (lw_S q2277 q2278 q150 q2279) (t_ones _ g n0) (by decide) (Nat.le_refl _) (Nat.le_refl _) rfl (Nat.le_of_ble_eq_true rfl) (Nat.le_of_ble_eq_true rfl) dX6_split_85 zE.nx (zE_kk ?_)
      refine pw_iload dX6_split_88 6 rfl ?_
      refine pw_isub dX6_split_90 ?_
      rw [nI_sub q2]
      refine pw_istore (ls' := [(7, _), (0, _), (1, _), (2, _), (3, _), (4, _), (5, _), (6, _)]) dX6_split_91 (by decide) rfl ?_
      refine pw_ls [1, 2, 3, 4, 5, 6, 7, 0] (ls' := [(0, _), (1, _), (2, _), (3, _), (4, _), (5, _), (6, _), (7, _)]) rfl ?_
      refine pw_iload dX6_split_93 6 rfl ?_
      refine pw_iload dX6_split_95 7 rfl ?_
      refine pw_icmp_le_N 105 dX6_split_97 (by decide) (by omega) (by omega) (fun c_97 => ?_) (fun c_97 => ?_)
      · refine pw_iload dX6_split_105 7 rfl ?_
        exact h107 c_53 _ _ _ (by rw [spSv, if_pos c_97])
      · refine pw_iload dX6_split_100 6 rfl ?_
        refine pw_goto 107 dX6_split_102 (by decide) ?_
        exact h107 c_53 _ _ _ (by rw [spSv, if_neg (by omega)])
  refine pw_aload_n dX6_split_0 0 rfl rfl ?_
  refine pw_iconst (v := 0) dX6_split_1 (by decide) ?_
  refine pw_puti 0 zc_X6 (ts_this hM) (by decide) (by decide) q1986 rfl (Or.inl rfl) rfl rfl dX6_split_2 ?_
  obtain ⟨hT0, hth, hf0⟩ := t_start hT hW; generalize zpfi n aT 0 0 = n0 at hT0 hth hf0 ⊢
  refine pw_aload_n dX6_split_5 0 rfl rfl ?_
  refine pw_iload_n dX6_split_6 1 rfl rfl ?_
  refine pw_callS1 zmM_X6_isWeek rfl (lw_S q2348 q2349 q150 q2350) (t_isWeek w _ _) (by decide) (Nat.le_refl _) (Nat.le_refl _) rfl (Nat.le_of_ble_eq_true rfl) (Nat.le_of_ble_eq_true rfl) dX6_split_7 zE.nx (zE_kk ?_)
  refine pw_if_eq_B 22 dX6_split_10 (by decide) (fun c_10 => ?_) (fun c_10 => ?_)
  · refine pw_iconst (v := 1) dX6_split_22 (by decide) ?_
    refine pw_goto 27 dX6_split_23 (by decide) ?_
    refine pw_iconst (v := 1) dX6_split_27 (by decide) ?_
    refine pw_iconst (v := 1) dX6_split_28 (by decide) ?_
    refine pw_callV3 zmM_X6_bad rfl (lw_V q2188 q2190 qs62 q150 q2191) rfl (ts_this hM) zc_X6 (t_bad1 hM 1 (by decide) 1 (by decide) hth) (by decide) (Nat.le_refl _) (Nat.le_refl _) rfl (Nat.le_of_ble_eq_true rfl) (Nat.le_of_ble_eq_true rfl) dX6_split_29 zE.nx (zE_kk ?_)
    refine pw_if_eq 37 dX6_split_32 (by decide) (fun c_32 => ?_) (fun c_32 => ?_)
    · exact absurd c_32 (by decide)
    · refine pw_iconst (v := 0) dX6_split_35 (by decide) ?_
      refine pw_iret rfl dX6_split_36 ?_
      exact tQ_eq (spNeed_f (fun h => c_10 (by simp only [Bool.and_eq_true] at h; exact h.1))) (t_qbad hT0 hW hf0 1 1 (by decide) _)
  · refine pw_iload_n dX6_split_13 2 rfl rfl ?_
    refine pw_iconst (v := 0) dX6_split_14 (by decide) ?_
    refine pw_iconst (v := 1) dX6_split_15 (by decide) ?_
    refine pw_callS3 zmM_X6_in rfl (lw_S q2185 q2186 q150 q2187) (t_in _ _ _ _ _) (by decide) (Nat.le_refl _) (Nat.le_refl _) rfl (Nat.le_of_ble_eq_true rfl) (Nat.le_of_ble_eq_true rfl) dX6_split_16 zE.nx (zE_kk ?_)
    refine pw_if_ne_B 26 dX6_split_19 (by decide) (fun c_19 => ?_) (fun c_19 => ?_)
    · refine pw_iconst (v := 0) dX6_split_26 (by decide) ?_
      refine pw_iconst (v := 1) dX6_split_27 (by decide) ?_
      refine pw_iconst (v := 1) dX6_split_28 (by decide) ?_
      refine pw_callV3 zmM_X6_bad rfl (lw_V q2188 q2190 qs62 q150 q2191) rfl (ts_this hM) zc_X6 (t_bad0 hM 1 (by decide) 1 (by decide) hth) (by decide) (Nat.le_refl _) (Nat.le_refl _) rfl (Nat.le_of_ble_eq_true rfl) (Nat.le_of_ble_eq_true rfl) dX6_split_29 zE.nx (zE_kk ?_)
      refine pw_if_eq 37 dX6_split_32 (by decide) (fun c_32 => ?_) (fun c_32 => ?_)
      · have hok : (inB w 52 && inB x (1 + 1)) = true := by rw [c_10, (inB_le (m := 1) (by decide)).mpr c_19]; rfl
        have hx := (inB_le (m := 1) (by decide)).mpr c_19
        obtain ⟨w, hw, rfl⟩ := inB_ex (by decide) c_10
        refine pw_iconst (v := (-1)) dX6_split_37 (by decide) ?_
        refine pw_istore_n (ls' := [(3, _), (0, _), (1, _), (2, _)]) dX6_split_38 rfl (by decide) rfl ?_
        refine pw_ls [1, 2, 3, 0] (ls' := [(0, _), (1, _), (2, _), (3, _)]) rfl ?_
        refine pw_iconst (v := 0) dX6_split_39 (by decide) ?_
        refine pw_istore (ls' := [(4, _), (0, _), (1, _), (2, _), (3, _)]) dX6_split_40 (by decide) rfl ?_
        refine pw_ls [1, 2, 3, 4, 0] (ls' := [(0, _), (1, _), (2, _), (3, _), (4, _)]) rfl ?_
        refine pw_iconst (v := 0) dX6_split_42 (by decide) ?_
        refine pw_istore (ls' := [(5, _), (0, _), (1, _), (2, _), (3, _), (4, _)]) dX6_split_43 (by decide) rfl ?_
        refine pw_ls [1, 2, 3, 4, 5, 0] (ls' := [(0, _), (1, _), (2, _), (3, _), (4, _), (5, _)]) rfl ?_
        have hcl : sp_split S (nI w) x = (0, .int (if x = 0 then (spSp S w (sN S 0 0)).1 else nI (spSp S w (sN S 0 0)).2), S) := (spNeed_t hok).trans (by rw [nI_clamp (by omega)])
        rw [hcl]
        exact hl n0 hT0 hth hf0 w hw 0 (Nat.zero_le _)
      · exact absurd rfl c_32
    · refine pw_iconst (v := 1) dX6_split_22 (by decide) ?_
      refine pw_goto 27 dX6_split_23 (by decide) ?_
      refine pw_iconst (v := 1) dX6_split_27 (by decide) ?_
      refine pw_iconst (v := 1) dX6_split_28 (by decide) ?_
      refine pw_callV3 zmM_X6_bad rfl (lw_V q2188 q2190 qs62 q150 q2191) rfl (ts_this hM) zc_X6 (t_bad1 hM 1 (by decide) 1 (by decide) hth) (by decide) (Nat.le_refl _) (Nat.le_refl _) rfl (Nat.le_of_ble_eq_true rfl) (Nat.le_of_ble_eq_true rfl) dX6_split_29 zE.nx (zE_kk ?_)
      refine pw_if_eq 37 dX6_split_32 (by decide) (fun c_32 => ?_) (fun c_32 => ?_)
      · exact absurd c_32 (by decide)
      · refine pw_iconst (v := 0) dX6_split_35 (by decide) ?_
        refine pw_iret rfl dX6_split_36 ?_
        exact tQ_eq (spNeed_f (fun h => c_19 ((inB_le (m := 1) (by decide)).mp (by simp only [Bool.and_eq_true] at h; exact h.2)))) (t_qbad hT0 hW hf0 1 1 (by decide) _)
theorem lb_z0 {x : Int64} {v : Nat} (hv : v < 64) : (x >>> ((nI v).toInt64 &&& 63)) &&& 1 = 0 ↔ lb x v = false := by
  rw [lb_bit x hv]; cases lb x v <;> simp
theorem lb_i {x : Int64} {v : Nat} (hv : v < 64) : ((x >>> ((nI v).toInt64 &&& 63)) &&& 1).toInt32 = zb (lb x v = true) := by
  rw [lb_bit x hv]; cases lb x v <;> rfl
theorem ct_b {p : Nat → Bool} {k : Nat} : nI (ct p k) + zb (p k = true) = nI (ct p (k + 1)) := by
  cases h : p k
  · rw [zb_f (by decide)]; exact ct_f h
  · rw [zb_t rfl]; exact ct_t h
abbrev spLn (S : zS) (v : Nat) : Nat → Nat := ct (fun k => lb (sL S 0 k) v)
def spLk (S : zS) (w : Nat) : Nat → Int32 × Int32
  | 0 => (-1, -1)
  | v + 1 => if lb (sL S 2 w) v = true ∧ (spLk S w v).2 < nI (spLn S v (sN S 0 1)) then (nI v, nI (spLn S v (sN S 0 1))) else spLk S w v
def sp_likely (S : zS) (w : Int32) : Int32 × Value × zS := spNeed S (inB w 52) 1 1 (.int 0) (0, .int (spLk S w.toNatClampNeg (2 ^ sN S 0 0)).1, S)
theorem t_likely {g : zg_G} {n : zg_N} {S : zS} (hM : TSh g) (hT : TW n S) (hW : WF S) (w : Int32) : PW zm_X6_likely 4 (tQ g n (sp_likely S w)) 0 0 0 [(0, .ref aT), (1, .int w)] [] g n := by
  have hs := hW.slips
  have h6 := hW.atoms.2
  have hp := nat_pow6 h6
  have hl : ∀ n0, TW n0 S → zfi n0 aT tf_thrown = 0 → zFr tXF tXA n n0 → ∀ w, w < 52 → ∀ v, v ≤ 2 ^ sN S 0 0 → PW zm_X6_likely 4 (tQ g n (0, .int (spLk S w (2 ^ sN S 0 0)).1, S)) 0 0 35 [(0, .ref aT), (1, .int (nI w)), (2, .int (spLk S w v).1), (3, .int (spLk S w v).2), (4, .int (nI v))] [] g n0 := by
    intro n0 hT0 hth hf0 w hw
    refine zl_up _ (fun v hv ih => ?_)
    have hi : v < 2 ^ sN S 0 0 → lb (sL S 2 w) v = true → ∀ k, k ≤ sN S 0 1 → PW zm_X6_likely 4 (tQ g n (0, .int (spLk S w (2 ^ sN S 0 0)).1, S)) 0 0 73 [(0, .ref aT), (1, .int (nI w)), (2, .int (spLk S w v).1), (3, .int (spLk S w v).2), (4, .int (nI v)), (5, .int (nI (spLn S v k))), (6, .int (nI k))] [] g n0 := by
      intro hv1 hb
      refine zl_up _ (fun k hk ih2 => ?_)
      refine pw_iload dX6_likely_73 6 rfl ?_
      refine pw_aload_n dX6_likely_75 0 rfl rfl ?_
      refine pw_getr 12 zc_X6 (ts_this hM) (by decide) q1998 (Or.inr ⟨_, rfl⟩) (tr_told hM) dX6_likely_76 ?_
      refine pw_iconst (v := 1) dX6_likely_79 (by decide) ?_
      refine pw_iald 1 rfl (ts_told hM) (by decide) (by decide) dX6_likely_80 ?_
      rw [hT0.told (k := 1) (by decide)]
      refine pw_icmp_ge_N 108 dX6_likely_81 (by decide) (by omega) (by omega) (fun c_81 => ?_) (fun c_81 => ?_)
      · rw [show k = sN S 0 1 by omega]
        refine pw_iload dX6_likely_108 5 rfl ?_
        refine pw_iload_n dX6_likely_110 3 rfl rfl ?_
        refine pw_icmp_gt 117 dX6_likely_111 (by decide) (fun c_111 => ?_) (fun c_111 => ?_)
        · refine pw_iload dX6_likely_117 4 rfl ?_
          refine pw_istore_n (ls' := [(2, _), (0, _), (1, _), (3, _), (4, _), (5, _), (6, _)]) dX6_likely_119 rfl (by decide) rfl ?_
          refine pw_ls [1, 2, 0, 3, 4, 5, 6] (ls' := [(0, _), (1, _), (2, _), (3, _), (4, _), (5, _), (6, _)]) rfl ?_
          refine pw_iload dX6_likely_120 5 rfl ?_
          refine pw_istore_n (ls' := [(3, _), (0, _), (1, _), (2, _), (4, _), (5, _), (6, _)]) dX6_likely_122 rfl (by decide) rfl ?_
          refine pw_ls [1, 2, 3, 0, 4] (ls' := [(0, _), (1, _), (2, _), (3, _), (4, _)]) rfl ?_
          refine pw_iinc1 (j := 4) (ls' := [(4, _), (0, _), (1, _), (2, _), (3, _)]) dX6_likely_123 rfl (by decide) rfl ?_
          refine pw_ls [1, 2, 3, 4, 0] (ls' := [(0, _), (1, _), (2, _), (3, _), (4, _)]) rfl ?_
          refine pw_goto 35 dX6_likely_126 (by decide) ?_
          have := ih (v + 1) (by omega) (by omega)
          rw [show spLk S w (v + 1) = (nI v, nI (spLn S v (sN S 0 1))) from if_pos ⟨hb, c_111⟩] at this
          exact this
        · refine pw_goto 123 dX6_likely_114 (by decide) ?_
          refine pw_ls [0, 1, 2, 3, 4] (ls' := [(0, _), (1, _), (2, _), (3, _), (4, _)]) rfl ?_
          refine pw_iinc1 (j := 4) (ls' := [(4, _), (0, _), (1, _), (2, _), (3, _)]) dX6_likely_123 rfl (by decide) rfl ?_
          refine pw_ls [1, 2, 3, 4, 0] (ls' := [(0, _), (1, _), (2, _), (3, _), (4, _)]) rfl ?_
          refine pw_goto 35 dX6_likely_126 (by decide) ?_
          have := ih (v + 1) (by omega) (by omega)
          rw [show spLk S w (v + 1) = spLk S w v from if_neg (fun z => c_111 z.2)] at this
          exact this
      · refine pw_iload dX6_likely_84 5 rfl ?_
        refine pw_aload_n dX6_likely_86 0 rfl rfl ?_
        refine pw_getr 16 zc_X6 (ts_this hM) (by decide) q2002 (Or.inr ⟨_, rfl⟩) (tr_models hM) dX6_likely_87 ?_
        refine pw_iload dX6_likely_90 6 rfl ?_
        refine pw_lald _ rfl (ts_models hM) (by omega) (by decide) dX6_likely_92 ?_
        rw [hT0.md (Or.inl c_81)]
        refine pw_iload dX6_likely_93 4 rfl ?_
        refine pw_lshr dX6_likely_95 ?_
        refine pw_lconst (v := 1) dX6_likely_96 rfl ?_
        refine pw_land dX6_likely_97 ?_
        refine pw_l2i dX6_likely_98 ?_
        rw [lb_i (show v < 64 by omega)]
        refine pw_iadd dX6_likely_99 ?_
        rw [ct_b (p := fun k => lb (sL S 0 k) v)]
        refine pw_istore (ls' := [(5, _), (0, _), (1, _), (2, _), (3, _), (4, _), (6, _)]) dX6_likely_100 (by decide) rfl ?_
        refine pw_ls [1, 2, 3, 4, 5, 0, 6] (ls' := [(0, _), (1, _), (2, _), (3, _), (4, _), (5, _), (6, _)]) rfl ?_
        refine pw_iinc1 (j := 6) (ls' := [(6, _), (0, _), (1, _), (2, _), (3, _), (4, _), (5, _)]) dX6_likely_102 rfl (by decide) rfl ?_
        refine pw_ls [1, 2, 3, 4, 5, 6, 0] (ls' := [(0, _), (1, _), (2, _), (3, _), (4, _), (5, _), (6, _)]) rfl ?_
        refine pw_goto 73 dX6_likely_105 (by decide) ?_
        exact ih2 (k + 1) (by omega) (by omega)
    refine pw_iload dX6_likely_35 4 rfl ?_
    refine pw_iconst (v := 1) dX6_likely_37 (by decide) ?_
    refine pw_aload_n dX6_likely_38 0 rfl rfl ?_
    refine pw_getr 12 zc_X6 (ts_this hM) (by decide) q1998 (Or.inr ⟨_, rfl⟩) (tr_told hM) dX6_likely_39 ?_
    refine pw_iconst (v := 0) dX6_likely_42 (by decide) ?_
    refine pw_iald 0 rfl (ts_told hM) (by decide) (by decide) dX6_likely_43 ?_
    rw [hT0.told (k := 0) (by decide)]
    refine pw_ishl dX6_likely_44 ?_
    rw [ishl1 (by omega)]
    refine pw_icmp_ge_N 129 dX6_likely_45 (by decide) (by omega) (by omega) (fun c_45 => ?_) (fun c_45 => ?_)
    · refine pw_iload_n dX6_likely_129 2 rfl rfl ?_
      refine pw_iret rfl dX6_likely_130 ?_
      exact tQ_eq (by rw [show v = 2 ^ sN S 0 0 by omega]) (t_qok hT0 hth hf0 _)
    · refine pw_aload_n dX6_likely_48 0 rfl rfl ?_
      refine pw_getr 19 zc_X6 (ts_this hM) (by decide) q2005 (Or.inr ⟨_, rfl⟩) (tr_leftIn hM) dX6_likely_49 ?_
      refine pw_iload_n dX6_likely_52 1 rfl rfl ?_
      refine pw_lald _ rfl (ts_leftIn hM) (by omega) (by decide) dX6_likely_53 ?_
      rw [hT0.lf hw]
      refine pw_iload dX6_likely_54 4 rfl ?_
      refine pw_lshr dX6_likely_56 ?_
      refine pw_lconst (v := 1) dX6_likely_57 rfl ?_
      refine pw_land dX6_likely_58 ?_
      refine pw_lconst (v := 0) dX6_likely_59 rfl ?_
      refine pw_lcmp dX6_likely_60 ?_
      refine pw_if_ne_L 67 dX6_likely_61 (by decide) (fun c_61 => ?_) (fun c_61 => ?_)
      · refine pw_iconst (v := 0) dX6_likely_67 (by decide) ?_
        refine pw_istore (ls' := [(5, _), (0, _), (1, _), (2, _), (3, _), (4, _)]) dX6_likely_68 (by decide) rfl ?_
        refine pw_ls [1, 2, 3, 4, 5, 0] (ls' := [(0, _), (1, _), (2, _), (3, _), (4, _), (5, _)]) rfl ?_
        refine pw_iconst (v := 0) dX6_likely_70 (by decide) ?_
        refine pw_istore (ls' := [(6, _), (0, _), (1, _), (2, _), (3, _), (4, _), (5, _)]) dX6_likely_71 (by decide) rfl ?_
        refine pw_ls [1, 2, 3, 4, 5, 6, 0] (ls' := [(0, _), (1, _), (2, _), (3, _), (4, _), (5, _), (6, _)]) rfl ?_
        exact hi c_45 (by cases h : lb (sL S 2 w) v; exact absurd ((lb_z0 (by omega)).mpr h) c_61; rfl) 0 (Nat.zero_le _)
      · refine pw_goto 123 dX6_likely_64 (by decide) ?_
        refine pw_iinc1 (j := 4) (ls' := [(4, _), (0, _), (1, _), (2, _), (3, _)]) dX6_likely_123 rfl (by decide) rfl ?_
        refine pw_ls [1, 2, 3, 4, 0] (ls' := [(0, _), (1, _), (2, _), (3, _), (4, _)]) rfl ?_
        refine pw_goto 35 dX6_likely_126 (by decide) ?_
        have := ih (v + 1) (by omega) (by omega)
        rw [show spLk S w (v + 1) = spLk S w v from if_neg (fun z => by rw [(lb_z0 (by omega)).mp c_61] at z; exact absurd z.1 (by decide))] at this
        exact this
  refine pw_aload_n dX6_likely_0 0 rfl rfl ?_
  refine pw_iconst (v := 0) dX6_likely_1 (by decide) ?_
  refine pw_puti 0 zc_X6 (ts_this hM) (by decide) (by decide) q1986 rfl (Or.inl rfl) rfl rfl dX6_likely_2 ?_
  obtain ⟨hT0, hth, hf0⟩ := t_start hT hW; generalize zpfi n aT 0 0 = n0 at hT0 hth hf0 ⊢
  refine pw_aload_n dX6_likely_5 0 rfl rfl ?_
  refine pw_iload_n dX6_likely_6 1 rfl rfl ?_
  refine pw_callS1 zmM_X6_isWeek rfl (lw_S q2348 q2349 q150 q2350) (t_isWeek w _ _) (by decide) (Nat.le_refl _) (Nat.le_refl _) rfl (Nat.le_of_ble_eq_true rfl) (Nat.le_of_ble_eq_true rfl) dX6_likely_7 zE.nx (zE_kk ?_)
  refine pw_if_ne_B 17 dX6_likely_10 (by decide) (fun c_10 => ?_) (fun c_10 => ?_)
  · refine pw_iconst (v := 0) dX6_likely_17 (by decide) ?_
    refine pw_iconst (v := 1) dX6_likely_18 (by decide) ?_
    refine pw_iconst (v := 1) dX6_likely_19 (by decide) ?_
    refine pw_callV3 zmM_X6_bad rfl (lw_V q2188 q2190 qs62 q150 q2191) rfl (ts_this hM) zc_X6 (t_bad0 hM 1 (by decide) 1 (by decide) hth) (by decide) (Nat.le_refl _) (Nat.le_refl _) rfl (Nat.le_of_ble_eq_true rfl) (Nat.le_of_ble_eq_true rfl) dX6_likely_20 zE.nx (zE_kk ?_)
    refine pw_if_eq 28 dX6_likely_23 (by decide) (fun c_23 => ?_) (fun c_23 => ?_)
    · obtain ⟨w, hw, rfl⟩ := inB_ex (by decide) c_10
      refine pw_iconst (v := (-1)) dX6_likely_28 (by decide) ?_
      refine pw_istore_n (ls' := [(2, _), (0, _), (1, _)]) dX6_likely_29 rfl (by decide) rfl ?_
      refine pw_ls [1, 2, 0] (ls' := [(0, _), (1, _), (2, _)]) rfl ?_
      refine pw_iconst (v := (-1)) dX6_likely_30 (by decide) ?_
      refine pw_istore_n (ls' := [(3, _), (0, _), (1, _), (2, _)]) dX6_likely_31 rfl (by decide) rfl ?_
      refine pw_ls [1, 2, 3, 0] (ls' := [(0, _), (1, _), (2, _), (3, _)]) rfl ?_
      refine pw_iconst (v := 0) dX6_likely_32 (by decide) ?_
      refine pw_istore (ls' := [(4, _), (0, _), (1, _), (2, _), (3, _)]) dX6_likely_33 (by decide) rfl ?_
      refine pw_ls [1, 2, 3, 4, 0] (ls' := [(0, _), (1, _), (2, _), (3, _), (4, _)]) rfl ?_
      have hcl : sp_likely S (nI w) = (0, .int (spLk S w (2 ^ sN S 0 0)).1, S) := (spNeed_t c_10).trans (by rw [nI_clamp (by omega)])
      rw [hcl]
      exact hl n0 hT0 hth hf0 w hw 0 (Nat.zero_le _)
    · exact absurd rfl c_23
  · refine pw_iconst (v := 1) dX6_likely_13 (by decide) ?_
    refine pw_goto 18 dX6_likely_14 (by decide) ?_
    refine pw_iconst (v := 1) dX6_likely_18 (by decide) ?_
    refine pw_iconst (v := 1) dX6_likely_19 (by decide) ?_
    refine pw_callV3 zmM_X6_bad rfl (lw_V q2188 q2190 qs62 q150 q2191) rfl (ts_this hM) zc_X6 (t_bad1 hM 1 (by decide) 1 (by decide) hth) (by decide) (Nat.le_refl _) (Nat.le_refl _) rfl (Nat.le_of_ble_eq_true rfl) (Nat.le_of_ble_eq_true rfl) dX6_likely_20 zE.nx (zE_kk ?_)
    refine pw_if_eq 28 dX6_likely_23 (by decide) (fun c_23 => ?_) (fun c_23 => ?_)
    · exact absurd c_23 (by decide)
    · refine pw_iconst (v := 0) dX6_likely_26 (by decide) ?_
      refine pw_iret rfl dX6_likely_27 ?_
      exact tQ_eq (spNeed_f c_10) (t_qbad hT0 hW hf0 1 1 (by decide) _)
def spKn (S : zS) (a w : Nat) : Int32 := if sL S 2 w = 0 then -1 else if sL S 2 w &&& wAt a (sN S 0 0) = sL S 2 w then 1 else if sL S 2 w &&& wAt a (sN S 0 0) = 0 then 0 else 2
def sp_known (S : zS) (x w : Int32) : Int32 × Value × zS := spNeed S (inB x (sN S 0 0) && inB w 52) 1 1 (.int 0) (0, .int (spKn S x.toNatClampNeg w.toNatClampNeg), S)
theorem t_q_known {g : zg_G} {n : zg_N} {S : zS} (hM : TSh g) (hT : TW n S) (hW : WF S) (x w : Int32) : PW zm_X6_known 4 (tQ g n (sp_known S x w)) 0 0 0 [(0, .ref aT), (1, .int x), (2, .int w)] [] g n := by
  have h6 := hW.atoms.2
  refine pw_aload_n dX6_known_0 0 rfl rfl ?_
  refine pw_iconst (v := 0) dX6_known_1 (by decide) ?_
  refine pw_puti 0 zc_X6 (ts_this hM) (by decide) (by decide) q1986 rfl (Or.inl rfl) rfl rfl dX6_known_2 ?_
  obtain ⟨hT0, hth, hf0⟩ := t_start hT hW; generalize zpfi n aT 0 0 = n0 at hT0 hth hf0 ⊢
  refine pw_aload_n dX6_known_5 0 rfl rfl ?_
  refine pw_iload_n dX6_known_6 1 rfl rfl ?_
  refine pw_iconst (v := 0) dX6_known_7 (by decide) ?_
  refine pw_aload_n dX6_known_8 0 rfl rfl ?_
  refine pw_getr 12 zc_X6 (ts_this hM) (by decide) q1998 (Or.inr ⟨_, rfl⟩) (tr_told hM) dX6_known_9 ?_
  refine pw_iconst (v := 0) dX6_known_12 (by decide) ?_
  refine pw_iald 0 rfl (ts_told hM) (by decide) (by decide) dX6_known_13 ?_
  rw [hT0.told (k := 0) (by decide)]
  refine pw_iconst (v := 1) dX6_known_14 (by decide) ?_
  refine pw_isub dX6_known_15 ?_
  refine pw_callS3 zmM_X6_in rfl (lw_S q2185 q2186 q150 q2187) (t_in _ _ _ _ _) (by decide) (Nat.le_refl _) (Nat.le_refl _) rfl (Nat.le_of_ble_eq_true rfl) (Nat.le_of_ble_eq_true rfl) dX6_known_16 zE.nx (zE_kk ?_)
  refine pw_if_eq_B 29 dX6_known_19 (by decide) (fun c_19 => ?_) (fun c_19 => ?_)
  · refine pw_iconst (v := 1) dX6_known_29 (by decide) ?_
    refine pw_goto 34 dX6_known_30 (by decide) ?_
    refine pw_iconst (v := 1) dX6_known_34 (by decide) ?_
    refine pw_iconst (v := 1) dX6_known_35 (by decide) ?_
    refine pw_callV3 zmM_X6_bad rfl (lw_V q2188 q2190 qs62 q150 q2191) rfl (ts_this hM) zc_X6 (t_bad1 hM 1 (by decide) 1 (by decide) hth) (by decide) (Nat.le_refl _) (Nat.le_refl _) rfl (Nat.le_of_ble_eq_true rfl) (Nat.le_of_ble_eq_true rfl) dX6_known_36 zE.nx (zE_kk ?_)
    refine pw_if_eq 44 dX6_known_39 (by decide) (fun c_39 => ?_) (fun c_39 => ?_)
    · exact absurd c_39 (by decide)
    · refine pw_iconst (v := 0) dX6_known_42 (by decide) ?_
      refine pw_iret rfl dX6_known_43 ?_
      exact tQ_eq (spNeed_f (fun h => c_19 ((inB_m1 (by omega)).mp (by simp only [Bool.and_eq_true] at h; exact h.1)))) (t_qbad hT0 hW hf0 1 1 (by decide) _)
  · refine pw_iload_n dX6_known_22 2 rfl rfl ?_
    refine pw_callS1 zmM_X6_isWeek rfl (lw_S q2348 q2349 q150 q2350) (t_isWeek w _ _) (by decide) (Nat.le_refl _) (Nat.le_refl _) rfl (Nat.le_of_ble_eq_true rfl) (Nat.le_of_ble_eq_true rfl) dX6_known_23 zE.nx (zE_kk ?_)
    refine pw_if_ne_B 33 dX6_known_26 (by decide) (fun c_26 => ?_) (fun c_26 => ?_)
    · refine pw_iconst (v := 0) dX6_known_33 (by decide) ?_
      refine pw_iconst (v := 1) dX6_known_34 (by decide) ?_
      refine pw_iconst (v := 1) dX6_known_35 (by decide) ?_
      refine pw_callV3 zmM_X6_bad rfl (lw_V q2188 q2190 qs62 q150 q2191) rfl (ts_this hM) zc_X6 (t_bad0 hM 1 (by decide) 1 (by decide) hth) (by decide) (Nat.le_refl _) (Nat.le_refl _) rfl (Nat.le_of_ble_eq_true rfl) (Nat.le_of_ble_eq_true rfl) dX6_known_36 zE.nx (zE_kk ?_)
      refine pw_if_eq 44 dX6_known_39 (by decide) (fun c_39 => ?_) (fun c_39 => ?_)
      · have hx := (inB_m1 (by omega)).mpr c_19
        have hok : (inB x (sN S 0 0) && inB w 52) = true := by rw [hx, c_26]; rfl
        obtain ⟨a, ha, rfl⟩ := inB_ex (by omega) hx
        obtain ⟨w, hw, rfl⟩ := inB_ex (by decide) c_26
        have hcl : sp_known S (nI a) (nI w) = (0, .int (spKn S a w), S) := (spNeed_t hok).trans (by rw [nI_clamp (by omega), nI_clamp (by omega)])
        rw [hcl]
        refine pw_aload_n dX6_known_44 0 rfl rfl ?_
        refine pw_getr 19 zc_X6 (ts_this hM) (by decide) q2005 (Or.inr ⟨_, rfl⟩) (tr_leftIn hM) dX6_known_45 ?_
        refine pw_iload_n dX6_known_48 2 rfl rfl ?_
        refine pw_lald _ rfl (ts_leftIn hM) (by omega) (by decide) dX6_known_49 ?_
        rw [hT0.lf hw]
        refine pw_iload_n dX6_known_50 1 rfl rfl ?_
        refine pw_aload_n dX6_known_51 0 rfl rfl ?_
        refine pw_getr 12 zc_X6 (ts_this hM) (by decide) q1998 (Or.inr ⟨_, rfl⟩) (tr_told hM) dX6_known_52 ?_
        refine pw_iconst (v := 0) dX6_known_55 (by decide) ?_
        refine pw_iald 0 rfl (ts_told hM) (by decide) (by decide) dX6_known_56 ?_
        rw [hT0.told (k := 0) (by decide)]
        refine pw_callS2 zmM_X6_atomOf rfl (lw_S q2270 q2271 q150 q2272) (t_atomOf a _ (by omega) h6 g n0) (by decide) (Nat.le_refl _) (Nat.le_refl _) rfl (Nat.le_of_ble_eq_true rfl) (Nat.le_of_ble_eq_true rfl) dX6_known_57 zE.nx (zE_kk ?_)
        refine pw_land dX6_known_60 ?_
        refine pw_lstore_n (ls' := [(3, _), (0, _), (1, _), (2, _)]) dX6_known_61 rfl (by decide) rfl ?_
        refine pw_ls [1, 2, 3, 0] (ls' := [(0, _), (1, _), (2, _), (3, _)]) rfl ?_
        refine pw_aload_n dX6_known_62 0 rfl rfl ?_
        refine pw_getr 19 zc_X6 (ts_this hM) (by decide) q2005 (Or.inr ⟨_, rfl⟩) (tr_leftIn hM) dX6_known_63 ?_
        refine pw_iload_n dX6_known_66 2 rfl rfl ?_
        refine pw_lald _ rfl (ts_leftIn hM) (by omega) (by decide) dX6_known_67 ?_
        rw [hT0.lf hw]
        refine pw_lconst (v := 0) dX6_known_68 rfl ?_
        refine pw_lcmp dX6_known_69 ?_
        refine pw_if_ne_L 77 dX6_known_70 (by decide) (fun c_70 => ?_) (fun c_70 => ?_)
        · refine pw_lload_n dX6_known_77 3 rfl rfl ?_
          refine pw_aload_n dX6_known_78 0 rfl rfl ?_
          refine pw_getr 19 zc_X6 (ts_this hM) (by decide) q2005 (Or.inr ⟨_, rfl⟩) (tr_leftIn hM) dX6_known_79 ?_
          refine pw_iload_n dX6_known_82 2 rfl rfl ?_
          refine pw_lald _ rfl (ts_leftIn hM) (by omega) (by decide) dX6_known_83 ?_
          rw [hT0.lf hw]
          refine pw_lcmp dX6_known_84 ?_
          refine pw_if_ne_L 92 dX6_known_85 (by decide) (fun c_85 => ?_) (fun c_85 => ?_)
          · refine pw_lload_n dX6_known_92 3 rfl rfl ?_
            refine pw_lconst (v := 0) dX6_known_93 rfl ?_
            refine pw_lcmp dX6_known_94 ?_
            refine pw_if_ne_L 102 dX6_known_95 (by decide) (fun c_95 => ?_) (fun c_95 => ?_)
            · refine pw_iconst (v := 2) dX6_known_102 (by decide) ?_
              refine pw_iret rfl dX6_known_103 ?_
              exact tQ_eq (by rw [spKn, if_neg c_70, if_neg c_85, if_neg c_95]) (t_qok hT0 hth hf0 _)
            · refine pw_iconst (v := 0) dX6_known_98 (by decide) ?_
              refine pw_goto 103 dX6_known_99 (by decide) ?_
              refine pw_iret rfl dX6_known_103 ?_
              exact tQ_eq (by rw [spKn, if_neg c_70, if_neg c_85, if_pos c_95]) (t_qok hT0 hth hf0 _)
          · refine pw_iconst (v := 1) dX6_known_88 (by decide) ?_
            refine pw_goto 103 dX6_known_89 (by decide) ?_
            refine pw_iret rfl dX6_known_103 ?_
            exact tQ_eq (by rw [spKn, if_neg c_70, if_pos c_85]) (t_qok hT0 hth hf0 _)
        · refine pw_iconst (v := (-1)) dX6_known_73 (by decide) ?_
          refine pw_goto 103 dX6_known_74 (by decide) ?_
          refine pw_iret rfl dX6_known_103 ?_
          exact tQ_eq (by rw [spKn, if_pos c_70]) (t_qok hT0 hth hf0 _)
      · exact absurd rfl c_39
    · refine pw_iconst (v := 1) dX6_known_29 (by decide) ?_
      refine pw_goto 34 dX6_known_30 (by decide) ?_
      refine pw_iconst (v := 1) dX6_known_34 (by decide) ?_
      refine pw_iconst (v := 1) dX6_known_35 (by decide) ?_
      refine pw_callV3 zmM_X6_bad rfl (lw_V q2188 q2190 qs62 q150 q2191) rfl (ts_this hM) zc_X6 (t_bad1 hM 1 (by decide) 1 (by decide) hth) (by decide) (Nat.le_refl _) (Nat.le_refl _) rfl (Nat.le_of_ble_eq_true rfl) (Nat.le_of_ble_eq_true rfl) dX6_known_36 zE.nx (zE_kk ?_)
      refine pw_if_eq 44 dX6_known_39 (by decide) (fun c_39 => ?_) (fun c_39 => ?_)
      · exact absurd c_39 (by decide)
      · refine pw_iconst (v := 0) dX6_known_42 (by decide) ?_
        refine pw_iret rfl dX6_known_43 ?_
        exact tQ_eq (spNeed_f (fun h => c_26 (by simp only [Bool.and_eq_true] at h; exact h.2))) (t_qbad hT0 hW hf0 1 1 (by decide) _)

/-! ===== the reference: asks, quarrels, peace, order ===== -/
def spAv (S : zS) (w s : Nat) : Nat → Int64
  | 0 => sL S 2 w
  | a + 1 => if ib (nI s) a = true then spAv S w s a &&& (if ib (nI (sN S 0 4)) a = true then wAt a (sN S 0 0) else wAt a (sN S 0 0) ^^^ -1) else spAv S w s a
def spAk (S : zS) (w : Nat) : Nat → Nat
  | 0 => 2 ^ sN S 0 0 - 1
  | s + 1 => if spAv S w s (sN S 0 0) = lN (2 ^ sN S 0 4) ∧ ic (nI s) < ic (nI (spAk S w s)) then s else spAk S w s
theorem spAk_lt {S : zS} (hW : WF S) (w : Nat) : ∀ s, s ≤ 2 ^ sN S 0 0 → spAk S w s < 64
  | 0, _ => by have := nat_pow6 hW.atoms.2; have := Nat.one_le_two_pow (n := sN S 0 0); rw [spAk]; omega
  | s + 1, h => by
    have := nat_pow6 hW.atoms.2
    rw [spAk]; split
    · omega
    · exact spAk_lt hW w s (by omega)
def sp_asks (S : zS) (w : Int32) : Int32 × Value × zS := spNeed S (inB w 52) 1 1 (.int 0) (0, .int (if sL S 2 w.toNatClampNeg &&& lN (2 ^ sN S 0 4) = 0 then -1 else nI (spAk S w.toNatClampNeg (2 ^ sN S 0 0))), S)
theorem t_asks {g : zg_G} {n : zg_N} {S : zS} (hM : TSh g) (hT : TW n S) (hW : WF S) (w : Int32) : PW zm_X6_asks 4 (tQ g n (sp_asks S w)) 0 0 0 [(0, .ref aT), (1, .int w)] [] g n := by
  have h6 := hW.atoms.2
  have hp := nat_pow6 h6
  have h64 := hW.world64
  have hl : ∀ n0, TW n0 S → zfi n0 aT tf_thrown = 0 → zFr tXF tXA n n0 → ∀ w, w < 52 → ∀ s, s ≤ 2 ^ sN S 0 0 → PW zm_X6_asks 4 (tQ g n (0, .int (nI (spAk S w (2 ^ sN S 0 0))), S)) 0 0 67 [(0, .ref aT), (1, .int (nI w)), (2, .long (lN (2 ^ sN S 0 4))), (4, .int (nI (spAk S w s))), (5, .int (nI s))] [] g n0 := by
    intro n0 hT0 hth hf0 w hw
    refine zl_up _ (fun s hs ih => ?_)
    have hb := spAk_lt hW w s hs
    have q0 := ic_le (nI s)
    have q1 := ic_le (nI (spAk S w s))
    have hi : s < 2 ^ sN S 0 0 → ∀ a, a ≤ sN S 0 0 → PW zm_X6_asks 4 (tQ g n (0, .int (nI (spAk S w (2 ^ sN S 0 0))), S)) 0 0 91 [(0, .ref aT), (1, .int (nI w)), (2, .long (lN (2 ^ sN S 0 4))), (4, .int (nI (spAk S w s))), (5, .int (nI s)), (6, .long (spAv S w s a)), (8, .int (nI a))] [] g n0 := by
      intro hs1
      refine zl_up _ (fun a ha ih2 => ?_)
      refine pw_iload dX6_asks_91 6 rfl ?_
      refine pw_aload_n dX6_asks_93 0 rfl rfl ?_
      refine pw_getr 12 zc_X6 (ts_this hM) (by decide) q1998 (Or.inr ⟨_, rfl⟩) (tr_told hM) dX6_asks_94 ?_
      refine pw_iconst (v := 0) dX6_asks_97 (by decide) ?_
      refine pw_iald 0 rfl (ts_told hM) (by decide) (by decide) dX6_asks_98 ?_
      rw [hT0.told (k := 0) (by decide)]
      refine pw_icmp_ge_N 168 dX6_asks_99 (by decide) (by omega) (by omega) (fun c_99 => ?_) (fun c_99 => ?_)
      · rw [show a = sN S 0 0 by omega]
        refine pw_lload dX6_asks_168 5 rfl ?_
        refine pw_lload_n dX6_asks_170 2 rfl rfl ?_
        refine pw_lcmp dX6_asks_171 ?_
        refine pw_if_ne_L 194 dX6_asks_172 (by decide) (fun c_172 => ?_) (fun c_172 => ?_)
        · refine pw_iinc1 (j := 4) (ls' := [(5, _), (0, _), (1, _), (2, _), (4, _), (6, _), (8, _)]) dX6_asks_194 rfl (by decide) rfl ?_
          refine pw_ls [1, 2, 3, 4, 0, 5, 6] (ls' := [(0, _), (1, _), (2, _), (4, _), (5, _), (6, _), (8, _)]) rfl ?_
          refine pw_goto 67 dX6_asks_197 (by decide) ?_
          refine pw_ls [0, 1, 2, 3, 4] (ls' := [(0, _), (1, _), (2, _), (4, _), (5, _)]) rfl ?_
          have := ih (s + 1) (by omega) (by omega)
          rw [show spAk S w (s + 1) = spAk S w s from if_neg (fun z => c_172 z.1)] at this
          exact this
        · refine pw_iload dX6_asks_175 4 rfl ?_
          refine pw_i2l dX6_asks_177 ?_
          refine pw_callS1 zmM_X6_ones rfl (lw_S q2277 q2278 q150 q2279) (t_onesN (by omega) g n0) (by decide) (Nat.le_refl _) (Nat.le_refl _) rfl (Nat.le_of_ble_eq_true rfl) (Nat.le_of_ble_eq_true rfl) dX6_asks_178 zE.nx (zE_kk ?_)
          refine pw_iload dX6_asks_181 3 rfl ?_
          refine pw_i2l dX6_asks_183 ?_
          refine pw_callS1 zmM_X6_ones rfl (lw_S q2277 q2278 q150 q2279) (t_onesN (by omega) g n0) (by decide) (Nat.le_refl _) (Nat.le_refl _) rfl (Nat.le_of_ble_eq_true rfl) (Nat.le_of_ble_eq_true rfl) dX6_asks_184 zE.nx (zE_kk ?_)
          refine pw_icmp_ge_N 194 dX6_asks_187 (by decide) (by omega) (by omega) (fun c_187 => ?_) (fun c_187 => ?_)
          · refine pw_iinc1 (j := 4) (ls' := [(5, _), (0, _), (1, _), (2, _), (4, _), (6, _), (8, _)]) dX6_asks_194 rfl (by decide) rfl ?_
            refine pw_ls [1, 2, 3, 4, 0, 5, 6] (ls' := [(0, _), (1, _), (2, _), (4, _), (5, _), (6, _), (8, _)]) rfl ?_
            refine pw_goto 67 dX6_asks_197 (by decide) ?_
            refine pw_ls [0, 1, 2, 3, 4] (ls' := [(0, _), (1, _), (2, _), (4, _), (5, _)]) rfl ?_
            have := ih (s + 1) (by omega) (by omega)
            rw [show spAk S w (s + 1) = spAk S w s from if_neg (fun z => absurd z.2 (by omega))] at this
            exact this
          · refine pw_iload dX6_asks_190 4 rfl ?_
            refine pw_istore (ls' := [(4, _), (0, _), (1, _), (2, _), (5, _), (6, _), (8, _)]) dX6_asks_192 (by decide) rfl ?_
            refine pw_ls [1, 2, 3, 0, 4, 5, 6] (ls' := [(0, _), (1, _), (2, _), (4, _), (5, _), (6, _), (8, _)]) rfl ?_
            refine pw_iinc1 (j := 4) (ls' := [(5, _), (0, _), (1, _), (2, _), (4, _), (6, _), (8, _)]) dX6_asks_194 rfl (by decide) rfl ?_
            refine pw_ls [1, 2, 3, 4, 0, 5, 6] (ls' := [(0, _), (1, _), (2, _), (4, _), (5, _), (6, _), (8, _)]) rfl ?_
            refine pw_goto 67 dX6_asks_197 (by decide) ?_
            refine pw_ls [0, 1, 2, 3, 4] (ls' := [(0, _), (1, _), (2, _), (4, _), (5, _)]) rfl ?_
            have := ih (s + 1) (by omega) (by omega)
            rw [show spAk S w (s + 1) = s from if_pos ⟨c_172, by omega⟩] at this
            exact this
      · refine pw_iload dX6_asks_102 4 rfl ?_
        refine pw_iload dX6_asks_104 6 rfl ?_
        refine pw_ishr dX6_asks_106 ?_
        refine pw_iconst (v := 1) dX6_asks_107 (by decide) ?_
        refine pw_iand dX6_asks_108 ?_
        refine pw_iconst (v := 1) dX6_asks_109 (by decide) ?_
        refine pw_icmp_ne 162 dX6_asks_110 (by decide) (fun c_110 => ?_) (fun c_110 => ?_)
        · refine pw_iinc1 (j := 6) (ls' := [(8, _), (0, _), (1, _), (2, _), (4, _), (5, _), (6, _)]) dX6_asks_162 rfl (by decide) rfl ?_
          refine pw_ls [1, 2, 3, 4, 5, 6, 0] (ls' := [(0, _), (1, _), (2, _), (4, _), (5, _), (6, _), (8, _)]) rfl ?_
          refine pw_goto 91 dX6_asks_165 (by decide) ?_
          have := ih2 (a + 1) (by omega) (by omega)
          rw [show spAv S w s (a + 1) = spAv S w s a from if_neg (fun h => c_110 ((ib_eq1 (by omega)).mpr h))] at this
          exact this
        · refine pw_lload dX6_asks_113 5 rfl ?_
          refine pw_aload_n dX6_asks_115 0 rfl rfl ?_
          refine pw_getr 12 zc_X6 (ts_this hM) (by decide) q1998 (Or.inr ⟨_, rfl⟩) (tr_told hM) dX6_asks_116 ?_
          refine pw_iconst (v := 4) dX6_asks_119 (by decide) ?_
          refine pw_iald 4 rfl (ts_told hM) (by decide) (by decide) dX6_asks_120 ?_
          rw [hT0.told (k := 4) (by decide)]
          refine pw_iload dX6_asks_121 6 rfl ?_
          refine pw_ishr dX6_asks_123 ?_
          refine pw_iconst (v := 1) dX6_asks_124 (by decide) ?_
          refine pw_iand dX6_asks_125 ?_
          refine pw_iconst (v := 1) dX6_asks_126 (by decide) ?_
          refine pw_icmp_ne 144 dX6_asks_127 (by decide) (fun c_127 => ?_) (fun c_127 => ?_)
          · refine pw_iload dX6_asks_144 6 rfl ?_
            refine pw_aload_n dX6_asks_146 0 rfl rfl ?_
            refine pw_getr 12 zc_X6 (ts_this hM) (by decide) q1998 (Or.inr ⟨_, rfl⟩) (tr_told hM) dX6_asks_147 ?_
            refine pw_iconst (v := 0) dX6_asks_150 (by decide) ?_
            refine pw_iald 0 rfl (ts_told hM) (by decide) (by decide) dX6_asks_151 ?_
            rw [hT0.told (k := 0) (by decide)]
            refine pw_callS2 zmM_X6_atomOf rfl (lw_S q2270 q2271 q150 q2272) (t_atomOf a _ (by omega) h6 g n0) (by decide) (Nat.le_refl _) (Nat.le_refl _) rfl (Nat.le_of_ble_eq_true rfl) (Nat.le_of_ble_eq_true rfl) dX6_asks_152 zE.nx (zE_kk ?_)
            refine pw_ldc2 q1972 dX6_asks_155 ?_
            refine pw_lxor dX6_asks_158 ?_
            refine pw_land dX6_asks_159 ?_
            refine pw_lstore (ls' := [(6, _), (0, _), (1, _), (2, _), (4, _), (5, _), (8, _)]) dX6_asks_160 (by decide) rfl ?_
            refine pw_ls [1, 2, 3, 4, 5, 0, 6] (ls' := [(0, _), (1, _), (2, _), (4, _), (5, _), (6, _), (8, _)]) rfl ?_
            refine pw_iinc1 (j := 6) (ls' := [(8, _), (0, _), (1, _), (2, _), (4, _), (5, _), (6, _)]) dX6_asks_162 rfl (by decide) rfl ?_
            refine pw_ls [1, 2, 3, 4, 5, 6, 0] (ls' := [(0, _), (1, _), (2, _), (4, _), (5, _), (6, _), (8, _)]) rfl ?_
            refine pw_goto 91 dX6_asks_165 (by decide) ?_
            have := ih2 (a + 1) (by omega) (by omega)
            rw [show spAv S w s (a + 1) = spAv S w s a &&& (wAt a (sN S 0 0) ^^^ -1) from (if_pos ((ib_eq1 (by omega)).mp c_110)).trans (by rw [if_neg (fun h => c_127 ((ib_eq1 (by omega)).mpr h))])] at this
            exact this
          · refine pw_iload dX6_asks_130 6 rfl ?_
            refine pw_aload_n dX6_asks_132 0 rfl rfl ?_
            refine pw_getr 12 zc_X6 (ts_this hM) (by decide) q1998 (Or.inr ⟨_, rfl⟩) (tr_told hM) dX6_asks_133 ?_
            refine pw_iconst (v := 0) dX6_asks_136 (by decide) ?_
            refine pw_iald 0 rfl (ts_told hM) (by decide) (by decide) dX6_asks_137 ?_
            rw [hT0.told (k := 0) (by decide)]
            refine pw_callS2 zmM_X6_atomOf rfl (lw_S q2270 q2271 q150 q2272) (t_atomOf a _ (by omega) h6 g n0) (by decide) (Nat.le_refl _) (Nat.le_refl _) rfl (Nat.le_of_ble_eq_true rfl) (Nat.le_of_ble_eq_true rfl) dX6_asks_138 zE.nx (zE_kk ?_)
            refine pw_goto 159 dX6_asks_141 (by decide) ?_
            refine pw_land dX6_asks_159 ?_
            refine pw_lstore (ls' := [(6, _), (0, _), (1, _), (2, _), (4, _), (5, _), (8, _)]) dX6_asks_160 (by decide) rfl ?_
            refine pw_ls [1, 2, 3, 4, 5, 0, 6] (ls' := [(0, _), (1, _), (2, _), (4, _), (5, _), (6, _), (8, _)]) rfl ?_
            refine pw_iinc1 (j := 6) (ls' := [(8, _), (0, _), (1, _), (2, _), (4, _), (5, _), (6, _)]) dX6_asks_162 rfl (by decide) rfl ?_
            refine pw_ls [1, 2, 3, 4, 5, 6, 0] (ls' := [(0, _), (1, _), (2, _), (4, _), (5, _), (6, _), (8, _)]) rfl ?_
            refine pw_goto 91 dX6_asks_165 (by decide) ?_
            have := ih2 (a + 1) (by omega) (by omega)
            rw [show spAv S w s (a + 1) = spAv S w s a &&& wAt a (sN S 0 0) from (if_pos ((ib_eq1 (by omega)).mp c_110)).trans (by rw [if_pos ((ib_eq1 (by omega)).mp c_127)])] at this
            exact this
    refine pw_iload dX6_asks_67 4 rfl ?_
    refine pw_iconst (v := 1) dX6_asks_69 (by decide) ?_
    refine pw_aload_n dX6_asks_70 0 rfl rfl ?_
    refine pw_getr 12 zc_X6 (ts_this hM) (by decide) q1998 (Or.inr ⟨_, rfl⟩) (tr_told hM) dX6_asks_71 ?_
    refine pw_iconst (v := 0) dX6_asks_74 (by decide) ?_
    refine pw_iald 0 rfl (ts_told hM) (by decide) (by decide) dX6_asks_75 ?_
    rw [hT0.told (k := 0) (by decide)]
    refine pw_ishl dX6_asks_76 ?_
    rw [ishl1 (by omega)]
    refine pw_icmp_ge_N 200 dX6_asks_77 (by decide) (by omega) (by omega) (fun c_77 => ?_) (fun c_77 => ?_)
    · refine pw_iload dX6_asks_200 3 rfl ?_
      refine pw_iret rfl dX6_asks_202 ?_
      exact tQ_eq (by rw [show s = 2 ^ sN S 0 0 by omega]) (t_qok hT0 hth hf0 _)
    · refine pw_aload_n dX6_asks_80 0 rfl rfl ?_
      refine pw_getr 19 zc_X6 (ts_this hM) (by decide) q2005 (Or.inr ⟨_, rfl⟩) (tr_leftIn hM) dX6_asks_81 ?_
      refine pw_iload_n dX6_asks_84 1 rfl rfl ?_
      refine pw_lald _ rfl (ts_leftIn hM) (by omega) (by decide) dX6_asks_85 ?_
      rw [hT0.lf hw]
      refine pw_lstore (ls' := [(6, _), (0, _), (1, _), (2, _), (4, _), (5, _)]) dX6_asks_86 (by decide) rfl ?_
      refine pw_ls [1, 2, 3, 4, 5, 0] (ls' := [(0, _), (1, _), (2, _), (4, _), (5, _), (6, _)]) rfl ?_
      refine pw_iconst (v := 0) dX6_asks_88 (by decide) ?_
      refine pw_istore (ls' := [(8, _), (0, _), (1, _), (2, _), (4, _), (5, _), (6, _)]) dX6_asks_89 (by decide) rfl ?_
      refine pw_ls [1, 2, 3, 4, 5, 6, 0] (ls' := [(0, _), (1, _), (2, _), (4, _), (5, _), (6, _), (8, _)]) rfl ?_
      exact hi c_77 0 (Nat.zero_le _)
  refine pw_aload_n dX6_asks_0 0 rfl rfl ?_
  refine pw_iconst (v := 0) dX6_asks_1 (by decide) ?_
  refine pw_puti 0 zc_X6 (ts_this hM) (by decide) (by decide) q1986 rfl (Or.inl rfl) rfl rfl dX6_asks_2 ?_
  obtain ⟨hT0, hth, hf0⟩ := t_start hT hW; generalize zpfi n aT 0 0 = n0 at hT0 hth hf0 ⊢
  refine pw_aload_n dX6_asks_5 0 rfl rfl ?_
  refine pw_iload_n dX6_asks_6 1 rfl rfl ?_
  refine pw_callS1 zmM_X6_isWeek rfl (lw_S q2348 q2349 q150 q2350) (t_isWeek w _ _) (by decide) (Nat.le_refl _) (Nat.le_refl _) rfl (Nat.le_of_ble_eq_true rfl) (Nat.le_of_ble_eq_true rfl) dX6_asks_7 zE.nx (zE_kk ?_)
  refine pw_if_ne_B 17 dX6_asks_10 (by decide) (fun c_10 => ?_) (fun c_10 => ?_)
  · refine pw_iconst (v := 0) dX6_asks_17 (by decide) ?_
    refine pw_iconst (v := 1) dX6_asks_18 (by decide) ?_
    refine pw_iconst (v := 1) dX6_asks_19 (by decide) ?_
    refine pw_callV3 zmM_X6_bad rfl (lw_V q2188 q2190 qs62 q150 q2191) rfl (ts_this hM) zc_X6 (t_bad0 hM 1 (by decide) 1 (by decide) hth) (by decide) (Nat.le_refl _) (Nat.le_refl _) rfl (Nat.le_of_ble_eq_true rfl) (Nat.le_of_ble_eq_true rfl) dX6_asks_20 zE.nx (zE_kk ?_)
    refine pw_if_eq 28 dX6_asks_23 (by decide) (fun c_23 => ?_) (fun c_23 => ?_)
    · obtain ⟨w, hw, rfl⟩ := inB_ex (by decide) c_10
      have hcl : sp_asks S (nI w) = (0, .int (if sL S 2 w &&& lN (2 ^ sN S 0 4) = 0 then -1 else nI (spAk S w (2 ^ sN S 0 0))), S) := (spNeed_t c_10).trans (by rw [nI_clamp (by omega)])
      rw [hcl]
      refine pw_lconst (v := 1) dX6_asks_28 rfl ?_
      refine pw_aload_n dX6_asks_29 0 rfl rfl ?_
      refine pw_getr 12 zc_X6 (ts_this hM) (by decide) q1998 (Or.inr ⟨_, rfl⟩) (tr_told hM) dX6_asks_30 ?_
      refine pw_iconst (v := 4) dX6_asks_33 (by decide) ?_
      refine pw_iald 4 rfl (ts_told hM) (by decide) (by decide) dX6_asks_34 ?_
      rw [hT0.told (k := 4) (by decide)]
      refine pw_lshl dX6_asks_35 ?_
      rw [lshl1 h64]
      refine pw_lstore_n (ls' := [(2, _), (0, _), (1, _)]) dX6_asks_36 rfl (by decide) rfl ?_
      refine pw_ls [1, 2, 0] (ls' := [(0, _), (1, _), (2, _)]) rfl ?_
      refine pw_aload_n dX6_asks_37 0 rfl rfl ?_
      refine pw_getr 19 zc_X6 (ts_this hM) (by decide) q2005 (Or.inr ⟨_, rfl⟩) (tr_leftIn hM) dX6_asks_38 ?_
      refine pw_iload_n dX6_asks_41 1 rfl rfl ?_
      refine pw_lald _ rfl (ts_leftIn hM) (by omega) (by decide) dX6_asks_42 ?_
      rw [hT0.lf hw]
      refine pw_lload_n dX6_asks_43 2 rfl rfl ?_
      refine pw_land dX6_asks_44 ?_
      refine pw_lconst (v := 0) dX6_asks_45 rfl ?_
      refine pw_lcmp dX6_asks_46 ?_
      refine pw_if_ne_L 52 dX6_asks_47 (by decide) (fun c_47 => ?_) (fun c_47 => ?_)
      · refine pw_iconst (v := 1) dX6_asks_52 (by decide) ?_
        refine pw_aload_n dX6_asks_53 0 rfl rfl ?_
        refine pw_getr 12 zc_X6 (ts_this hM) (by decide) q1998 (Or.inr ⟨_, rfl⟩) (tr_told hM) dX6_asks_54 ?_
        refine pw_iconst (v := 0) dX6_asks_57 (by decide) ?_
        refine pw_iald 0 rfl (ts_told hM) (by decide) (by decide) dX6_asks_58 ?_
        rw [hT0.told (k := 0) (by decide)]
        refine pw_ishl dX6_asks_59 ?_
        rw [ishl1 (by omega)]
        refine pw_iconst (v := 1) dX6_asks_60 (by decide) ?_
        refine pw_isub dX6_asks_61 ?_
        rw [show nI (2 ^ sN S 0 0) - 1 = nI (2 ^ sN S 0 0 - 1) from nI_sub (Nat.one_le_two_pow)]
        refine pw_istore (ls' := [(4, _), (0, _), (1, _), (2, _)]) dX6_asks_62 (by decide) rfl ?_
        refine pw_ls [1, 2, 3, 0] (ls' := [(0, _), (1, _), (2, _), (4, _)]) rfl ?_
        refine pw_iconst (v := 0) dX6_asks_64 (by decide) ?_
        refine pw_istore (ls' := [(5, _), (0, _), (1, _), (2, _), (4, _)]) dX6_asks_65 (by decide) rfl ?_
        refine pw_ls [1, 2, 3, 4, 0] (ls' := [(0, _), (1, _), (2, _), (4, _), (5, _)]) rfl ?_
        rw [if_neg c_47]
        exact hl n0 hT0 hth hf0 w hw 0 (Nat.zero_le _)
      · refine pw_iconst (v := (-1)) dX6_asks_50 (by decide) ?_
        refine pw_iret rfl dX6_asks_51 ?_
        exact tQ_eq (by rw [if_pos c_47]) (t_qok hT0 hth hf0 _)
    · exact absurd rfl c_23
  · refine pw_iconst (v := 1) dX6_asks_13 (by decide) ?_
    refine pw_goto 18 dX6_asks_14 (by decide) ?_
    refine pw_iconst (v := 1) dX6_asks_18 (by decide) ?_
    refine pw_iconst (v := 1) dX6_asks_19 (by decide) ?_
    refine pw_callV3 zmM_X6_bad rfl (lw_V q2188 q2190 qs62 q150 q2191) rfl (ts_this hM) zc_X6 (t_bad1 hM 1 (by decide) 1 (by decide) hth) (by decide) (Nat.le_refl _) (Nat.le_refl _) rfl (Nat.le_of_ble_eq_true rfl) (Nat.le_of_ble_eq_true rfl) dX6_asks_20 zE.nx (zE_kk ?_)
    refine pw_if_eq 28 dX6_asks_23 (by decide) (fun c_23 => ?_) (fun c_23 => ?_)
    · exact absurd c_23 (by decide)
    · refine pw_iconst (v := 0) dX6_asks_26 (by decide) ?_
      refine pw_iret rfl dX6_asks_27 ?_
      exact tQ_eq (spNeed_f c_10) (t_qbad hT0 hW hf0 1 1 (by decide) _)
abbrev spQp (S : zS) (w a b : Nat) : Bool := decide (a < b) && decide (spFalls S a b w)
def spQr (S : zS) (w : Nat) : Nat → Nat
  | 0 => 0
  | a + 1 => spQr S w a + ct (spQp S w a) (sN S 0 1)
theorem ct_0 {p : Nat → Bool} : ∀ n, (∀ k, k < n → p k = false) → ct p n = 0
  | 0, _ => rfl
  | n + 1, h => by simp only [ct]; rw [ct_0 n (fun k hk => h k (by omega)), h n (by omega)]; rfl
theorem ct_t2 {p : Nat → Bool} {x k : Nat} (h : p k = true) : nI (x + ct p k) + 1 = nI (x + ct p (k + 1)) := by simp only [ct, h]; exact nI_1 _
theorem ct_f2 {p : Nat → Bool} {x k : Nat} (h : p k = false) : nI (x + ct p k) + 0 = nI (x + ct p (k + 1)) := by simp only [ct, h]; exact Int32.add_zero _
def sp_quarrels (S : zS) (w : Int32) : Int32 × Value × zS := spNeed S (inB w 52) 1 1 (.int 0) (0, .int (nI (spQr S w.toNatClampNeg (sN S 0 1))), S)
theorem t_quarrels {g : zg_G} {n : zg_N} {S : zS} (hM : TSh g) (hT : TW n S) (hW : WF S) (w : Int32) : PW zm_X6_quarrels 4 (tQ g n (sp_quarrels S w)) 0 0 0 [(0, .ref aT), (1, .int w)] [] g n := by
  have hs := hW.slips
  have hl : ∀ n0, TW n0 S → zfi n0 aT tf_thrown = 0 → zFr tXF tXA n n0 → ∀ w, w < 52 → ∀ a, a ≤ sN S 0 1 → PW zm_X6_quarrels 4 (tQ g n (0, .int (nI (spQr S w (sN S 0 1))), S)) 0 0 32 [(0, .ref aT), (1, .int (nI w)), (2, .int (nI (spQr S w a))), (3, .int (nI a))] [] g n0 := by
    intro n0 hT0 hth hf0 w hw
    refine zl_up _ (fun a ha ih => ?_)
    have hi : a < sN S 0 1 → ∀ b, b ≤ sN S 0 1 → a < b → PW zm_X6_quarrels 4 (tQ g n (0, .int (nI (spQr S w (sN S 0 1))), S)) 0 0 47 [(0, .ref aT), (1, .int (nI w)), (2, .int (nI (spQr S w a + ct (spQp S w a) b))), (3, .int (nI a)), (4, .int (nI b))] [] g n0 := by
      intro ha1
      refine zl_up _ (fun b hb ih2 hab => ?_)
      refine pw_iload dX6_quarrels_47 4 rfl ?_
      refine pw_aload_n dX6_quarrels_49 0 rfl rfl ?_
      refine pw_getr 12 zc_X6 (ts_this hM) (by decide) q1998 (Or.inr ⟨_, rfl⟩) (tr_told hM) dX6_quarrels_50 ?_
      refine pw_iconst (v := 1) dX6_quarrels_53 (by decide) ?_
      refine pw_iald 1 rfl (ts_told hM) (by decide) (by decide) dX6_quarrels_54 ?_
      rw [hT0.told (k := 1) (by decide)]
      refine pw_icmp_ge_N 83 dX6_quarrels_55 (by decide) (by omega) (by omega) (fun c_55 => ?_) (fun c_55 => ?_)
      · refine pw_iinc1 (j := 3) (ls' := [(3, _), (0, _), (1, _), (2, _), (4, _)]) dX6_quarrels_83 rfl (by decide) rfl ?_
        refine pw_ls [1, 2, 3, 0, 4] (ls' := [(0, _), (1, _), (2, _), (3, _), (4, _)]) rfl ?_
        refine pw_goto 32 dX6_quarrels_86 (by decide) ?_
        refine pw_ls [0, 1, 2, 3] (ls' := [(0, _), (1, _), (2, _), (3, _)]) rfl ?_
        have := ih (a + 1) (by omega) (by omega)
        rw [show b = sN S 0 1 by omega]
        exact this
      · refine pw_iload_n dX6_quarrels_58 2 rfl rfl ?_
        refine pw_aload_n dX6_quarrels_59 0 rfl rfl ?_
        refine pw_iload_n dX6_quarrels_60 3 rfl rfl ?_
        refine pw_iload dX6_quarrels_61 4 rfl ?_
        refine pw_iload_n dX6_quarrels_63 1 rfl rfl ?_
        refine pw_callV3 zmM_X6_falls rfl (lw_V q2359 q2361 qs91 q150 q2362) rfl (ts_this hM) zc_X6 (t_falls hM hT0 hW a b w (Or.inl ha1) (Or.inl c_55) hw) (by decide) (Nat.le_refl _) (Nat.le_refl _) rfl (Nat.le_of_ble_eq_true rfl) (Nat.le_of_ble_eq_true rfl) dX6_quarrels_64 zE.nx (zE_kk ?_)
        refine pw_if_eq_B 74 dX6_quarrels_67 (by decide) (fun c_67 => ?_) (fun c_67 => ?_)
        · refine pw_iconst (v := 0) dX6_quarrels_74 (by decide) ?_
          refine pw_iadd dX6_quarrels_75 ?_
          first | rw [ct_t2 (p := spQp S w a) (k := b) (by simp only [spQp, decide_eq_true hab, decide_eq_true c_67]; rfl)] | rw [ct_f2 (p := spQp S w a) (k := b) (by simp only [spQp, decide_eq_false c_67, Bool.and_false])]
          refine pw_istore_n (ls' := [(2, _), (0, _), (1, _), (3, _), (4, _)]) dX6_quarrels_76 rfl (by decide) rfl ?_
          refine pw_ls [1, 2, 0, 3, 4] (ls' := [(0, _), (1, _), (2, _), (3, _), (4, _)]) rfl ?_
          refine pw_iinc1 (j := 4) (ls' := [(4, _), (0, _), (1, _), (2, _), (3, _)]) dX6_quarrels_77 rfl (by decide) rfl ?_
          refine pw_ls [1, 2, 3, 4, 0] (ls' := [(0, _), (1, _), (2, _), (3, _), (4, _)]) rfl ?_
          refine pw_goto 47 dX6_quarrels_80 (by decide) ?_
          exact ih2 (b + 1) (by omega) (by omega) (by omega)
        · refine pw_iconst (v := 1) dX6_quarrels_70 (by decide) ?_
          refine pw_goto 75 dX6_quarrels_71 (by decide) ?_
          refine pw_iadd dX6_quarrels_75 ?_
          first | rw [ct_t2 (p := spQp S w a) (k := b) (by simp only [spQp, decide_eq_true hab, decide_eq_true c_67]; rfl)] | rw [ct_f2 (p := spQp S w a) (k := b) (by simp only [spQp, decide_eq_false c_67, Bool.and_false])]
          refine pw_istore_n (ls' := [(2, _), (0, _), (1, _), (3, _), (4, _)]) dX6_quarrels_76 rfl (by decide) rfl ?_
          refine pw_ls [1, 2, 0, 3, 4] (ls' := [(0, _), (1, _), (2, _), (3, _), (4, _)]) rfl ?_
          refine pw_iinc1 (j := 4) (ls' := [(4, _), (0, _), (1, _), (2, _), (3, _)]) dX6_quarrels_77 rfl (by decide) rfl ?_
          refine pw_ls [1, 2, 3, 4, 0] (ls' := [(0, _), (1, _), (2, _), (3, _), (4, _)]) rfl ?_
          refine pw_goto 47 dX6_quarrels_80 (by decide) ?_
          exact ih2 (b + 1) (by omega) (by omega) (by omega)
    refine pw_iload_n dX6_quarrels_32 3 rfl rfl ?_
    refine pw_aload_n dX6_quarrels_33 0 rfl rfl ?_
    refine pw_getr 12 zc_X6 (ts_this hM) (by decide) q1998 (Or.inr ⟨_, rfl⟩) (tr_told hM) dX6_quarrels_34 ?_
    refine pw_iconst (v := 1) dX6_quarrels_37 (by decide) ?_
    refine pw_iald 1 rfl (ts_told hM) (by decide) (by decide) dX6_quarrels_38 ?_
    rw [hT0.told (k := 1) (by decide)]
    refine pw_icmp_ge_N 89 dX6_quarrels_39 (by decide) (by omega) (by omega) (fun c_39 => ?_) (fun c_39 => ?_)
    · refine pw_iload_n dX6_quarrels_89 2 rfl rfl ?_
      refine pw_iret rfl dX6_quarrels_90 ?_
      exact tQ_eq (by rw [show a = sN S 0 1 by omega]) (t_qok hT0 hth hf0 _)
    · refine pw_iload_n dX6_quarrels_42 3 rfl rfl ?_
      refine pw_iconst (v := 1) dX6_quarrels_43 (by decide) ?_
      refine pw_iadd dX6_quarrels_44 ?_
      rw [nI_1]
      refine pw_istore (ls' := [(4, _), (0, _), (1, _), (2, _), (3, _)]) dX6_quarrels_45 (by decide) rfl ?_
      refine pw_ls [1, 2, 3, 4, 0] (ls' := [(0, _), (1, _), (2, _), (3, _), (4, _)]) rfl ?_
      have := hi c_39 (a + 1) (by omega) (by omega)
      rw [ct_0 (p := spQp S w a) (a + 1) (fun k hk => by simp only [spQp, decide_eq_false (show ¬ a < k by omega), Bool.false_and])] at this
      exact this
  refine pw_aload_n dX6_quarrels_0 0 rfl rfl ?_
  refine pw_iconst (v := 0) dX6_quarrels_1 (by decide) ?_
  refine pw_puti 0 zc_X6 (ts_this hM) (by decide) (by decide) q1986 rfl (Or.inl rfl) rfl rfl dX6_quarrels_2 ?_
  obtain ⟨hT0, hth, hf0⟩ := t_start hT hW; generalize zpfi n aT 0 0 = n0 at hT0 hth hf0 ⊢
  refine pw_aload_n dX6_quarrels_5 0 rfl rfl ?_
  refine pw_iload_n dX6_quarrels_6 1 rfl rfl ?_
  refine pw_callS1 zmM_X6_isWeek rfl (lw_S q2348 q2349 q150 q2350) (t_isWeek w _ _) (by decide) (Nat.le_refl _) (Nat.le_refl _) rfl (Nat.le_of_ble_eq_true rfl) (Nat.le_of_ble_eq_true rfl) dX6_quarrels_7 zE.nx (zE_kk ?_)
  refine pw_if_ne_B 17 dX6_quarrels_10 (by decide) (fun c_10 => ?_) (fun c_10 => ?_)
  · refine pw_iconst (v := 0) dX6_quarrels_17 (by decide) ?_
    refine pw_iconst (v := 1) dX6_quarrels_18 (by decide) ?_
    refine pw_iconst (v := 1) dX6_quarrels_19 (by decide) ?_
    refine pw_callV3 zmM_X6_bad rfl (lw_V q2188 q2190 qs62 q150 q2191) rfl (ts_this hM) zc_X6 (t_bad0 hM 1 (by decide) 1 (by decide) hth) (by decide) (Nat.le_refl _) (Nat.le_refl _) rfl (Nat.le_of_ble_eq_true rfl) (Nat.le_of_ble_eq_true rfl) dX6_quarrels_20 zE.nx (zE_kk ?_)
    refine pw_if_eq 28 dX6_quarrels_23 (by decide) (fun c_23 => ?_) (fun c_23 => ?_)
    · obtain ⟨w, hw, rfl⟩ := inB_ex (by decide) c_10
      refine pw_iconst (v := 0) dX6_quarrels_28 (by decide) ?_
      refine pw_istore_n (ls' := [(2, _), (0, _), (1, _)]) dX6_quarrels_29 rfl (by decide) rfl ?_
      refine pw_ls [1, 2, 0] (ls' := [(0, _), (1, _), (2, _)]) rfl ?_
      refine pw_iconst (v := 0) dX6_quarrels_30 (by decide) ?_
      refine pw_istore_n (ls' := [(3, _), (0, _), (1, _), (2, _)]) dX6_quarrels_31 rfl (by decide) rfl ?_
      refine pw_ls [1, 2, 3, 0] (ls' := [(0, _), (1, _), (2, _), (3, _)]) rfl ?_
      have hcl : sp_quarrels S (nI w) = (0, .int (nI (spQr S w (sN S 0 1))), S) := (spNeed_t c_10).trans (by rw [nI_clamp (by omega)])
      rw [hcl]
      exact hl n0 hT0 hth hf0 w hw 0 (Nat.zero_le _)
    · exact absurd rfl c_23
  · refine pw_iconst (v := 1) dX6_quarrels_13 (by decide) ?_
    refine pw_goto 18 dX6_quarrels_14 (by decide) ?_
    refine pw_iconst (v := 1) dX6_quarrels_18 (by decide) ?_
    refine pw_iconst (v := 1) dX6_quarrels_19 (by decide) ?_
    refine pw_callV3 zmM_X6_bad rfl (lw_V q2188 q2190 qs62 q150 q2191) rfl (ts_this hM) zc_X6 (t_bad1 hM 1 (by decide) 1 (by decide) hth) (by decide) (Nat.le_refl _) (Nat.le_refl _) rfl (Nat.le_of_ble_eq_true rfl) (Nat.le_of_ble_eq_true rfl) dX6_quarrels_20 zE.nx (zE_kk ?_)
    refine pw_if_eq 28 dX6_quarrels_23 (by decide) (fun c_23 => ?_) (fun c_23 => ?_)
    · exact absurd c_23 (by decide)
    · refine pw_iconst (v := 0) dX6_quarrels_26 (by decide) ?_
      refine pw_iret rfl dX6_quarrels_27 ?_
      exact tQ_eq (spNeed_f c_10) (t_qbad hT0 hW hf0 1 1 (by decide) _)
def al (p : Nat → Bool) : Nat → Bool
  | 0 => true
  | n + 1 => al p n && p n
theorem al_iff {p : Nat → Bool} : ∀ n, al p n = true ↔ ∀ k, k < n → p k = true
  | 0 => ⟨fun _ k hk => absurd hk (Nat.not_lt_zero _), fun _ => rfl⟩
  | n + 1 => by
    simp only [al, Bool.and_eq_true]
    rw [al_iff n]
    exact ⟨fun h k hk => if e : k = n then e ▸ h.2 else h.1 k (by omega), fun h => ⟨fun k hk => h k (by omega), h n (by omega)⟩⟩
abbrev spPo (S : zS) (w s a b : Nat) : Bool := !(decide (a ≤ b) && (ib (nI s) a && ib (nI s) b) && decide (spFalls S a b w))
abbrev spPi (S : zS) (w s a : Nat) : Bool := al (spPo S w s a) (sN S 0 1)
theorem spPo_0 (S : zS) (w s a : Nat) : al (spPo S w s a) a = true := (al_iff a).mpr (fun k hk => by simp only [spPo, decide_eq_false (show ¬ a ≤ k by omega), Bool.false_and]; rfl)
def spPc (S : zS) (w : Nat) : Nat → Nat
  | 0 => 0
  | s + 1 => if ic (nI (spPc S w s)) < ic (nI s) ∧ al (spPi S w s) (sN S 0 1) = true then s else spPc S w s
theorem spPc_lt (S : zS) (w : Nat) : ∀ s, s ≤ 4096 → spPc S w s < 4096
  | 0, _ => by show 0 < 4096; decide
  | s + 1, h => by
    rw [spPc]; split
    · omega
    · exact spPc_lt S w s (by omega)
theorem ib_two {x : Int32} {a b : Nat} (ha : a < 32) (hb : b < 32) : ((x >>> (nI a &&& 31)) &&& (x >>> (nI b &&& 31))) &&& 1 = 0 ↔ (ib x a && ib x b) = false := by
  have e : ((x >>> (nI a &&& 31)) &&& (x >>> (nI b &&& 31))) &&& 1 = ((x >>> (nI a &&& 31)) &&& 1) &&& ((x >>> (nI b &&& 31)) &&& 1) := by
    apply ib_ext
    intro i hi
    simp only [ib_and]
    cases ib (x >>> (nI a &&& 31)) i <;> cases ib (x >>> (nI b &&& 31)) i <;> cases ib 1 i <;> rfl
  rw [e, ib_bit x ha, ib_bit x hb]
  cases ib x a <;> cases ib x b <;> decide
def sp_peace (S : zS) (w : Int32) : Int32 × Value × zS := spNeed S (inB w 52) 1 1 (.int 0) (0, .int (nI (spPc S w.toNatClampNeg (2 ^ sN S 0 1))), S)
theorem t_peace {g : zg_G} {n : zg_N} {S : zS} (hM : TSh g) (hT : TW n S) (hW : WF S) (w : Int32) : PW zm_X6_peace 4 (tQ g n (sp_peace S w)) 0 0 0 [(0, .ref aT), (1, .int w)] [] g n := by
  have hs := hW.slips
  have hp := pow12 hs
  have hl : ∀ n0, TW n0 S → zfi n0 aT tf_thrown = 0 → zFr tXF tXA n n0 → ∀ w, w < 52 → ∀ s, s ≤ 2 ^ sN S 0 1 → PW zm_X6_peace 4 (tQ g n (0, .int (nI (spPc S w (2 ^ sN S 0 1))), S)) 0 0 32 [(0, .ref aT), (1, .int (nI w)), (2, .int (nI (spPc S w s))), (3, .int (nI s))] [] g n0 := by
    intro n0 hT0 hth hf0 w hw
    refine zl_up _ (fun s hss ih => ?_)
    have hb0 := spPc_lt S w s (by omega)
    have q0 := ic_le (nI s)
    have q1 := ic_le (nI (spPc S w s))
    have ho : s < 2 ^ sN S 0 1 → ic (nI (spPc S w s)) < ic (nI s) → ∀ a, a ≤ sN S 0 1 → PW zm_X6_peace 4 (tQ g n (0, .int (nI (spPc S w (2 ^ sN S 0 1))), S)) 0 0 66 [(0, .ref aT), (1, .int (nI w)), (2, .int (nI (spPc S w s))), (3, .int (nI s)), (4, .int (zb (al (spPi S w s) a = true))), (5, .int (nI a))] [] g n0 := by
      intro hs1 hbt
      refine zl_up _ (fun a ha ih2 => ?_)
      have hi : a < sN S 0 1 → ∀ b, b ≤ sN S 0 1 → a ≤ b → PW zm_X6_peace 4 (tQ g n (0, .int (nI (spPc S w (2 ^ sN S 0 1))), S)) 0 0 81 [(0, .ref aT), (1, .int (nI w)), (2, .int (nI (spPc S w s))), (3, .int (nI s)), (4, .int (zb ((al (spPi S w s) a && al (spPo S w s a) b) = true))), (5, .int (nI a)), (6, .int (nI b))] [] g n0 := by
        intro ha1
        refine zl_up _ (fun b hb ih3 hab => ?_)
        have h128 : b < sN S 0 1 → ∀ v, v = zb ((al (spPi S w s) a && al (spPo S w s a) (b + 1)) = true) → PW zm_X6_peace 4 (tQ g n (0, .int (nI (spPc S w (2 ^ sN S 0 1))), S)) 0 0 128 [(0, .ref aT), (1, .int (nI w)), (2, .int (nI (spPc S w s))), (3, .int (nI s)), (4, .int (zb ((al (spPi S w s) a && al (spPo S w s a) b) = true))), (5, .int (nI a)), (6, .int (nI b))] [.int v] g n0 := by
          intro hb1 v hv
          subst hv
          refine pw_istore (ls' := [(4, _), (0, _), (1, _), (2, _), (3, _), (5, _), (6, _)]) dX6_peace_128 (by decide) rfl ?_
          refine pw_ls [1, 2, 3, 4, 0, 5, 6] (ls' := [(0, _), (1, _), (2, _), (3, _), (4, _), (5, _), (6, _)]) rfl ?_
          refine pw_iinc1 (j := 6) (ls' := [(6, _), (0, _), (1, _), (2, _), (3, _), (4, _), (5, _)]) dX6_peace_130 rfl (by decide) rfl ?_
          refine pw_ls [1, 2, 3, 4, 5, 6, 0] (ls' := [(0, _), (1, _), (2, _), (3, _), (4, _), (5, _), (6, _)]) rfl ?_
          refine pw_goto 81 dX6_peace_133 (by decide) ?_
          exact ih3 (b + 1) (by omega) (by omega) (by omega)
        refine pw_iload dX6_peace_81 6 rfl ?_
        refine pw_aload_n dX6_peace_83 0 rfl rfl ?_
        refine pw_getr 12 zc_X6 (ts_this hM) (by decide) q1998 (Or.inr ⟨_, rfl⟩) (tr_told hM) dX6_peace_84 ?_
        refine pw_iconst (v := 1) dX6_peace_87 (by decide) ?_
        refine pw_iald 1 rfl (ts_told hM) (by decide) (by decide) dX6_peace_88 ?_
        rw [hT0.told (k := 1) (by decide)]
        refine pw_icmp_ge_N 136 dX6_peace_89 (by decide) (by omega) (by omega) (fun c_89 => ?_) (fun c_89 => ?_)
        · refine pw_iinc1 (j := 5) (ls' := [(5, _), (0, _), (1, _), (2, _), (3, _), (4, _), (6, _)]) dX6_peace_136 rfl (by decide) rfl ?_
          refine pw_ls [1, 2, 3, 4, 5, 0, 6] (ls' := [(0, _), (1, _), (2, _), (3, _), (4, _), (5, _), (6, _)]) rfl ?_
          refine pw_goto 66 dX6_peace_139 (by decide) ?_
          refine pw_ls [0, 1, 2, 3, 4, 5] (ls' := [(0, _), (1, _), (2, _), (3, _), (4, _), (5, _)]) rfl ?_
          rw [show b = sN S 0 1 by omega]
          exact ih2 (a + 1) (by omega) (by omega)
        · refine pw_iload dX6_peace_92 4 rfl ?_
          refine pw_if_eq_B 127 dX6_peace_94 (by decide) (fun c_94 => ?_) (fun c_94 => ?_)
          · refine pw_iconst (v := 0) dX6_peace_127 (by decide) ?_
            exact h128 c_89 _ (zb_f (fun h => c_94 (by simp only [al, Bool.and_eq_true] at h ⊢; exact ⟨h.1, h.2.1⟩))).symm
          · refine pw_iload_n dX6_peace_97 3 rfl rfl ?_
            refine pw_iload dX6_peace_98 5 rfl ?_
            refine pw_ishr dX6_peace_100 ?_
            refine pw_iload_n dX6_peace_101 3 rfl rfl ?_
            refine pw_iload dX6_peace_102 6 rfl ?_
            refine pw_ishr dX6_peace_104 ?_
            refine pw_iand dX6_peace_105 ?_
            refine pw_iconst (v := 1) dX6_peace_106 (by decide) ?_
            refine pw_iand dX6_peace_107 ?_
            refine pw_if_eq 123 dX6_peace_108 (by decide) (fun c_108 => ?_) (fun c_108 => ?_)
            · refine pw_iconst (v := 1) dX6_peace_123 (by decide) ?_
              refine pw_goto 128 dX6_peace_124 (by decide) ?_
              exact h128 c_89 _ (zb_t (by simp only [al, Bool.and_eq_true, spPo] at c_94 ⊢; rw [(ib_two (by omega) (by omega)).mp c_108]; exact ⟨c_94.1, c_94.2, by simp⟩)).symm
            · refine pw_aload_n dX6_peace_111 0 rfl rfl ?_
              refine pw_iload dX6_peace_112 5 rfl ?_
              refine pw_iload dX6_peace_114 6 rfl ?_
              refine pw_iload_n dX6_peace_116 1 rfl rfl ?_
              refine pw_callV3 zmM_X6_falls rfl (lw_V q2359 q2361 qs91 q150 q2362) rfl (ts_this hM) zc_X6 (t_falls hM hT0 hW a b w (Or.inl ha1) (Or.inl c_89) hw) (by decide) (Nat.le_refl _) (Nat.le_refl _) rfl (Nat.le_of_ble_eq_true rfl) (Nat.le_of_ble_eq_true rfl) dX6_peace_117 zE.nx (zE_kk ?_)
              refine pw_if_ne_B 127 dX6_peace_120 (by decide) (fun c_120 => ?_) (fun c_120 => ?_)
              · refine pw_iconst (v := 0) dX6_peace_127 (by decide) ?_
                exact h128 c_89 _ (zb_f (fun h => by simp only [al, Bool.and_eq_true, spPo] at h; have h2 := h.2.2; rw [decide_eq_true c_120, decide_eq_true hab, show (ib (nI s) a && ib (nI s) b) = true from by cases hz : (ib (nI s) a && ib (nI s) b); exact absurd ((ib_two (by omega) (by omega)).mpr hz) c_108; rfl] at h2; exact absurd h2 (by decide))).symm
              · refine pw_iconst (v := 1) dX6_peace_123 (by decide) ?_
                refine pw_goto 128 dX6_peace_124 (by decide) ?_
                exact h128 c_89 _ (zb_t (by simp only [al, Bool.and_eq_true, spPo] at c_94 ⊢; exact ⟨c_94.1, c_94.2, by rw [decide_eq_false c_120]; simp⟩)).symm
      refine pw_iload dX6_peace_66 5 rfl ?_
      refine pw_aload_n dX6_peace_68 0 rfl rfl ?_
      refine pw_getr 12 zc_X6 (ts_this hM) (by decide) q1998 (Or.inr ⟨_, rfl⟩) (tr_told hM) dX6_peace_69 ?_
      refine pw_iconst (v := 1) dX6_peace_72 (by decide) ?_
      refine pw_iald 1 rfl (ts_told hM) (by decide) (by decide) dX6_peace_73 ?_
      rw [hT0.told (k := 1) (by decide)]
      refine pw_icmp_ge_N 142 dX6_peace_74 (by decide) (by omega) (by omega) (fun c_74 => ?_) (fun c_74 => ?_)
      · refine pw_iload dX6_peace_142 4 rfl ?_
        refine pw_if_eq_B 151 dX6_peace_144 (by decide) (fun c_144 => ?_) (fun c_144 => ?_)
        · refine pw_iload_n dX6_peace_151 2 rfl rfl ?_
          refine pw_istore_n (ls' := [(2, _), (0, _), (1, _), (3, _), (4, _), (5, _)]) dX6_peace_152 rfl (by decide) rfl ?_
          refine pw_ls [1, 2, 0, 3] (ls' := [(0, _), (1, _), (2, _), (3, _)]) rfl ?_
          refine pw_iinc1 (j := 3) (ls' := [(3, _), (0, _), (1, _), (2, _)]) dX6_peace_153 rfl (by decide) rfl ?_
          refine pw_ls [1, 2, 3, 0] (ls' := [(0, _), (1, _), (2, _), (3, _)]) rfl ?_
          refine pw_goto 32 dX6_peace_156 (by decide) ?_
          have := ih (s + 1) (by omega) (by omega)
          rw [show spPc S w (s + 1) = spPc S w s from if_neg (fun z => c_144 (by rw [show a = sN S 0 1 by omega]; exact z.2))] at this
          exact this
        · refine pw_iload_n dX6_peace_147 3 rfl rfl ?_
          refine pw_goto 152 dX6_peace_148 (by decide) ?_
          refine pw_istore_n (ls' := [(2, _), (0, _), (1, _), (3, _), (4, _), (5, _)]) dX6_peace_152 rfl (by decide) rfl ?_
          refine pw_ls [1, 2, 0, 3] (ls' := [(0, _), (1, _), (2, _), (3, _)]) rfl ?_
          refine pw_iinc1 (j := 3) (ls' := [(3, _), (0, _), (1, _), (2, _)]) dX6_peace_153 rfl (by decide) rfl ?_
          refine pw_ls [1, 2, 3, 0] (ls' := [(0, _), (1, _), (2, _), (3, _)]) rfl ?_
          refine pw_goto 32 dX6_peace_156 (by decide) ?_
          have := ih (s + 1) (by omega) (by omega)
          rw [show spPc S w (s + 1) = s from if_pos ⟨hbt, by rw [show a = sN S 0 1 by omega] at c_144; exact c_144⟩] at this
          exact this
      · refine pw_iload dX6_peace_77 5 rfl ?_
        refine pw_istore (ls' := [(6, _), (0, _), (1, _), (2, _), (3, _), (4, _), (5, _)]) dX6_peace_79 (by decide) rfl ?_
        refine pw_ls [1, 2, 3, 4, 5, 6, 0] (ls' := [(0, _), (1, _), (2, _), (3, _), (4, _), (5, _), (6, _)]) rfl ?_
        have := hi c_74 a (by omega) (Nat.le_refl _)
        rw [show (al (spPi S w s) a && al (spPo S w s a) a) = al (spPi S w s) a from by rw [spPo_0, Bool.and_true]] at this
        exact this
    refine pw_iload_n dX6_peace_32 3 rfl rfl ?_
    refine pw_iconst (v := 1) dX6_peace_33 (by decide) ?_
    refine pw_aload_n dX6_peace_34 0 rfl rfl ?_
    refine pw_getr 12 zc_X6 (ts_this hM) (by decide) q1998 (Or.inr ⟨_, rfl⟩) (tr_told hM) dX6_peace_35 ?_
    refine pw_iconst (v := 1) dX6_peace_38 (by decide) ?_
    refine pw_iald 1 rfl (ts_told hM) (by decide) (by decide) dX6_peace_39 ?_
    rw [hT0.told (k := 1) (by decide)]
    refine pw_ishl dX6_peace_40 ?_
    rw [ishl1 (by omega)]
    refine pw_icmp_ge_N 159 dX6_peace_41 (by decide) (by omega) (by omega) (fun c_41 => ?_) (fun c_41 => ?_)
    · refine pw_iload_n dX6_peace_159 2 rfl rfl ?_
      refine pw_iret rfl dX6_peace_160 ?_
      exact tQ_eq (by rw [show s = 2 ^ sN S 0 1 by omega]) (t_qok hT0 hth hf0 _)
    · refine pw_iload_n dX6_peace_44 3 rfl rfl ?_
      refine pw_i2l dX6_peace_45 ?_
      refine pw_callS1 zmM_X6_ones rfl (lw_S q2277 q2278 q150 q2279) (t_onesN (by omega) g n0) (by decide) (Nat.le_refl _) (Nat.le_refl _) rfl (Nat.le_of_ble_eq_true rfl) (Nat.le_of_ble_eq_true rfl) dX6_peace_46 zE.nx (zE_kk ?_)
      refine pw_iload_n dX6_peace_49 2 rfl rfl ?_
      refine pw_i2l dX6_peace_50 ?_
      refine pw_callS1 zmM_X6_ones rfl (lw_S q2277 q2278 q150 q2279) (t_onesN (by omega) g n0) (by decide) (Nat.le_refl _) (Nat.le_refl _) rfl (Nat.le_of_ble_eq_true rfl) (Nat.le_of_ble_eq_true rfl) dX6_peace_51 zE.nx (zE_kk ?_)
      refine pw_icmp_gt_N 60 dX6_peace_54 (by decide) (by omega) (by omega) (fun c_54 => ?_) (fun c_54 => ?_)
      · refine pw_iconst (v := 1) dX6_peace_60 (by decide) ?_
        refine pw_istore (ls' := [(4, _), (0, _), (1, _), (2, _), (3, _)]) dX6_peace_61 (by decide) rfl ?_
        refine pw_ls [1, 2, 3, 4, 0] (ls' := [(0, _), (1, _), (2, _), (3, _), (4, _)]) rfl ?_
        refine pw_iconst (v := 0) dX6_peace_63 (by decide) ?_
        refine pw_istore (ls' := [(5, _), (0, _), (1, _), (2, _), (3, _), (4, _)]) dX6_peace_64 (by decide) rfl ?_
        refine pw_ls [1, 2, 3, 4, 5, 0] (ls' := [(0, _), (1, _), (2, _), (3, _), (4, _), (5, _)]) rfl ?_
        exact ho c_41 c_54 0 (Nat.zero_le _)
      · refine pw_goto 153 dX6_peace_57 (by decide) ?_
        refine pw_iinc1 (j := 3) (ls' := [(3, _), (0, _), (1, _), (2, _)]) dX6_peace_153 rfl (by decide) rfl ?_
        refine pw_ls [1, 2, 3, 0] (ls' := [(0, _), (1, _), (2, _), (3, _)]) rfl ?_
        refine pw_goto 32 dX6_peace_156 (by decide) ?_
        have := ih (s + 1) (by omega) (by omega)
        rw [show spPc S w (s + 1) = spPc S w s from if_neg (fun z => absurd z.1 (by omega))] at this
        exact this
  refine pw_aload_n dX6_peace_0 0 rfl rfl ?_
  refine pw_iconst (v := 0) dX6_peace_1 (by decide) ?_
  refine pw_puti 0 zc_X6 (ts_this hM) (by decide) (by decide) q1986 rfl (Or.inl rfl) rfl rfl dX6_peace_2 ?_
  obtain ⟨hT0, hth, hf0⟩ := t_start hT hW; generalize zpfi n aT 0 0 = n0 at hT0 hth hf0 ⊢
  refine pw_aload_n dX6_peace_5 0 rfl rfl ?_
  refine pw_iload_n dX6_peace_6 1 rfl rfl ?_
  refine pw_callS1 zmM_X6_isWeek rfl (lw_S q2348 q2349 q150 q2350) (t_isWeek w _ _) (by decide) (Nat.le_refl _) (Nat.le_refl _) rfl (Nat.le_of_ble_eq_true rfl) (Nat.le_of_ble_eq_true rfl) dX6_peace_7 zE.nx (zE_kk ?_)
  refine pw_if_ne_B 17 dX6_peace_10 (by decide) (fun c_10 => ?_) (fun c_10 => ?_)
  · refine pw_iconst (v := 0) dX6_peace_17 (by decide) ?_
    refine pw_iconst (v := 1) dX6_peace_18 (by decide) ?_
    refine pw_iconst (v := 1) dX6_peace_19 (by decide) ?_
    refine pw_callV3 zmM_X6_bad rfl (lw_V q2188 q2190 qs62 q150 q2191) rfl (ts_this hM) zc_X6 (t_bad0 hM 1 (by decide) 1 (by decide) hth) (by decide) (Nat.le_refl _) (Nat.le_refl _) rfl (Nat.le_of_ble_eq_true rfl) (Nat.le_of_ble_eq_true rfl) dX6_peace_20 zE.nx (zE_kk ?_)
    refine pw_if_eq 28 dX6_peace_23 (by decide) (fun c_23 => ?_) (fun c_23 => ?_)
    · obtain ⟨w, hw, rfl⟩ := inB_ex (by decide) c_10
      refine pw_iconst (v := 0) dX6_peace_28 (by decide) ?_
      refine pw_istore_n (ls' := [(2, _), (0, _), (1, _)]) dX6_peace_29 rfl (by decide) rfl ?_
      refine pw_ls [1, 2, 0] (ls' := [(0, _), (1, _), (2, _)]) rfl ?_
      refine pw_iconst (v := 0) dX6_peace_30 (by decide) ?_
      refine pw_istore_n (ls' := [(3, _), (0, _), (1, _), (2, _)]) dX6_peace_31 rfl (by decide) rfl ?_
      refine pw_ls [1, 2, 3, 0] (ls' := [(0, _), (1, _), (2, _), (3, _)]) rfl ?_
      have hcl : sp_peace S (nI w) = (0, .int (nI (spPc S w (2 ^ sN S 0 1))), S) := (spNeed_t c_10).trans (by rw [nI_clamp (by omega)])
      rw [hcl]
      exact hl n0 hT0 hth hf0 w hw 0 (Nat.zero_le _)
    · exact absurd rfl c_23
  · refine pw_iconst (v := 1) dX6_peace_13 (by decide) ?_
    refine pw_goto 18 dX6_peace_14 (by decide) ?_
    refine pw_iconst (v := 1) dX6_peace_18 (by decide) ?_
    refine pw_iconst (v := 1) dX6_peace_19 (by decide) ?_
    refine pw_callV3 zmM_X6_bad rfl (lw_V q2188 q2190 qs62 q150 q2191) rfl (ts_this hM) zc_X6 (t_bad1 hM 1 (by decide) 1 (by decide) hth) (by decide) (Nat.le_refl _) (Nat.le_refl _) rfl (Nat.le_of_ble_eq_true rfl) (Nat.le_of_ble_eq_true rfl) dX6_peace_20 zE.nx (zE_kk ?_)
    refine pw_if_eq 28 dX6_peace_23 (by decide) (fun c_23 => ?_) (fun c_23 => ?_)
    · exact absurd c_23 (by decide)
    · refine pw_iconst (v := 0) dX6_peace_26 (by decide) ?_
      refine pw_iret rfl dX6_peace_27 ?_
      exact tQ_eq (spNeed_f c_10) (t_qbad hT0 hW hf0 1 1 (by decide) _)

/-! ===== the reference: an order ===== -/
/-! so many into as many: one to one, or onto -/
theorem pg_is : ∀ (m : Nat) (f : Nat → Nat), isPerm f m → ∀ d, d < m → ∃ k, k < m ∧ f k = d
  | 0, _, _, d, hd => absurd hd (Nat.not_lt_zero _)
  | m + 1, f, h, d, hd => by
    obtain ⟨h1, h2⟩ := h
    have hv : f m < m + 1 := h1 m (by omega)
    have hg : isPerm (fun k => if f k = m then f m else f k) m := by
      refine ⟨fun k hk => ?_, fun i j hi hj h => ?_⟩
      · show (if f k = m then f m else f k) < m
        split
        · next h => by_cases e : f m = m
                    · have := h2 k m (by omega) (by omega) (h.trans e.symm); omega
                    · omega
        · next h => have := h1 k (by omega); omega
      · replace h : (if f i = m then f m else f i) = (if f j = m then f m else f j) := h
        by_cases e1 : f i = m
        · by_cases e2 : f j = m
          · exact h2 i j (by omega) (by omega) (e1.trans e2.symm)
          · rw [if_pos e1, if_neg e2] at h
            have := h2 m j (by omega) (by omega) h; omega
        · by_cases e2 : f j = m
          · rw [if_neg e1, if_pos e2] at h
            have := h2 i m (by omega) (by omega) h; omega
          · rw [if_neg e1, if_neg e2] at h
            exact h2 i j (by omega) (by omega) h
    by_cases e : d = f m
    · exact ⟨m, by omega, e.symm⟩
    · by_cases e2 : d = m
      · subst e2
        obtain ⟨k, hk, hk2⟩ := pg_is d _ hg (f d) (by omega)
        replace hk2 : (if f k = d then f d else f k) = f d := hk2
        by_cases e3 : f k = d
        · exact ⟨k, by omega, e3⟩
        · rw [if_neg e3] at hk2
          have := h2 k d (by omega) (by omega) hk2; omega
      · obtain ⟨k, hk, hk2⟩ := pg_is m _ hg d (by omega)
        replace hk2 : (if f k = m then f m else f k) = d := hk2
        by_cases e3 : f k = m
        · rw [if_pos e3] at hk2; exact absurd hk2.symm e
        · rw [if_neg e3] at hk2; exact ⟨k, by omega, hk2⟩
theorem pg_si (m : Nat) (f : Nat → Nat) (h : ∀ d, d < m → ∃ k, k < m ∧ f k = d) : isPerm f m := by
  have hc : ∃ u : Nat → Nat, ∀ d, d < m → u d < m ∧ f (u d) = d :=
    ⟨fun d => if hd : d < m then Classical.choose (h d hd) else 0, fun d hd => by
      show (if hd : d < m then Classical.choose (h d hd) else 0) < m ∧ f (if hd : d < m then Classical.choose (h d hd) else 0) = d
      rw [dif_pos hd]; exact Classical.choose_spec (h d hd)⟩
  obtain ⟨u, hu⟩ := hc
  have hp : isPerm u m := ⟨fun k hk => (hu k hk).1, fun i j hi hj e => by rw [← (hu i hi).2, ← (hu j hj).2, e]⟩
  have hs := pg_is m u hp
  refine ⟨fun k hk => ?_, fun i j hi hj e => ?_⟩
  · obtain ⟨d, hd, hd2⟩ := hs k hk
    rw [← hd2, (hu d hd).2]; exact hd
  · obtain ⟨d, hd, hd2⟩ := hs i hi
    obtain ⟨c, hc, hc2⟩ := hs j hj
    rw [← hd2, (hu d hd).2, ← hc2, (hu c hc).2] at e
    rw [← hd2, ← hc2, e]
/-! the order, anew -/
def sOrd (S : zS) (f : Nat → Nat) : zS := (fun a k => if a = 2 then f k else S.1 a k, S.2)
theorem TW.ord {n n' : zg_N} {S : zS} (h : TW n S) (hW : WF S) (f : Nat → Nat) (hf : zFr (fun _ _ => False) (fun a => a = at_order) n n') (hl : ∀ k, zal n' at_order k = zal n at_order k) (ho : ∀ k, k < 12 → zai n' at_order k = nI (f k)) : TW n' (sOrd S f) := by
  have hi : ∀ k, zfi n' aT k = zfi n aT k := fun k => (hf.1 aT k (fun q => q)).1
  have hlf : ∀ k, zfl n' aT k = zfl n aT k := fun k => (hf.1 aT k (fun q => q)).2
  have ha : ∀ a, a ≠ at_order → ∀ j, zai n' a j = zai n a j := fun a q j => (hf.2 a q j).1
  have hb : ∀ a, a ≠ at_order → ∀ j, zal n' a j = zal n a j := fun a q j => (hf.2 a q j).2
  obtain ⟨h1, h2, h3, h4, h5, h6, ⟨h7, h8⟩, ⟨h9, h10⟩, h11, h12, h13, c, N, h14, h15, h16⟩ := h
  have hw10 : (sT S).length ≤ 10 := hW.tl
  have hi3 : sN S 0 6 ≤ 3 := hW.imgs
  refine ⟨fun k hk => ?_, fun k hk => ?_, fun k hk => ⟨?_, ?_⟩, fun k hk => ?_, fun k hk => ?_, ?_, ⟨?_, fun i hi2 j hj => ?_⟩, ⟨?_, fun k hk => ?_⟩, ?_, fun k hk => ?_, ?_, c, N, h14, fun i hi2 => ⟨?_, ?_⟩, fun k q hq => ?_⟩
  · rw [ha at_told (by decide)]; exact h1 k hk
  · rw [hb at_models (by decide)]; exact h2 k hk
  · rw [ha at_seeWeek (by decide)]; exact (h3 k hk).1
  · rw [hb at_seen (by decide)]; exact (h3 k hk).2
  · rw [hb at_leftIn (by decide)]; exact h4 k hk
  · exact ho k hk
  · rw [hlf]; exact h6
  · rw [hi]; exact h7
  · rw [ha (at_kept + 1 + i) (by show 1058 + 1 + i ≠ 1057; omega)]
    exact (h8 i hi2 j hj).trans (congrArg nI (if_neg (show ¬ 10 + i = 2 by omega)).symm)
  · rw [hi]; exact h9
  · rw [ha at_fed (by decide)]; exact h10 k hk
  · rw [hi]; exact h11
  · rw [ha at_refused (by decide)]; exact h12 k hk
  · rw [hi]; exact h13
  · rw [ha (at_code + 1 + i) (by show 1084 + 1 + i ≠ 1057; omega)]; exact (h15 i hi2).1
  · rw [ha (at_code + 1 + i) (by show 1084 + 1 + i ≠ 1057; omega)]; exact (h15 i hi2).2
  · have hk : k < (sT S).length := (List.getElem?_eq_some_iff.mp hq).1
    obtain ⟨i, m, a1, a2, a3, a4, a5⟩ := h16 k q hq
    have := ha (at_who + 1 + k) (by show 1062 + 1 + k ≠ 1057; omega)
    exact ⟨i, m, a1, (this 0).trans a2, (this 1).trans a3, (this 2).trans a4, a5⟩
theorem WF.ordd {S : zS} (h : WF S) (f : Nat → Nat) (h1 : ∀ k, k < 12 → f k < 12) (h2 : isPerm f (sN S 0 1)) : WF (sOrd S f) := by
  obtain ⟨b, c1, c2, c3, c4, c5⟩ := h
  refine ⟨b, c1, ⟨h1, h2⟩, c3, fun i hi => ?_, c5⟩
  have := c4 i hi
  have e : ∀ k, sN (sOrd S f) (10 + i) k = sN S (10 + i) k := fun k => if_neg (show ¬ 10 + i = 2 by omega)
  refine ⟨by rw [e]; exact this.1, by rw [e]; exact this.2.1, fun k hk => by rw [e]; exact this.2.2.1 k hk, fun j hj => ?_, fun x y hx hy => ?_⟩
  · show sN (sOrd S f) (10 + i) (2 + j) < _
    rw [e]; exact this.2.2.2.1 j hj
  · show sN (sOrd S f) (10 + i) (2 + x) = sN (sOrd S f) (10 + i) (2 + y) → _
    rw [e, e]; exact this.2.2.2.2 x y hx hy
/-! digits of four bits -/
def dg (x : Int64) (j : Nat) : Nat := (x.toBitVec.toNat >>> (4 * j)) % 16
theorem dg_lt (x : Int64) (j : Nat) : dg x j < 16 := Nat.mod_lt _ (by decide)
theorem lb_toNat (x : Int64) (i : Nat) : lb x i = x.toBitVec.toNat.testBit i := rfl
theorem dg_bit (x : Int64) (j i : Nat) : (dg x j).testBit i = (decide (i < 4) && lb x (4 * j + i)) := by
  rw [dg, show (16 : Nat) = 2 ^ 4 from rfl, Nat.testBit_mod_two_pow, Nat.testBit_shiftRight, lb_toNat]
theorem lb_15 : ∀ i, i < 64 → lb 15 i = decide (i < 4) := by decide +kernel
theorem dg_low {L : Int64} {x : Int64} {j : Nat} (h : ∀ i, i < 4 → lb L i = lb x (4 * j + i)) : (L &&& 15).toInt32 = nI (dg x j) := by
  apply ib_ext
  intro i hi
  rw [ib_nI hi, dg_bit]
  have e : ib (L &&& 15).toInt32 i = lb (L &&& 15) i := by
    unfold ib lb
    rw [Int64.toBitVec_toInt32, BitVec.getLsbD_signExtend]
    simp [hi, show i < 64 by omega]
  rw [e, lb_and, lb_15 i (by omega)]
  by_cases h4 : i < 4
  · rw [h i h4]; simp [h4]
  · simp [h4]
abbrev ordF (S : zS) (x : Int64) (k : Nat) : Nat := dg x (sN S 0 1 - 1 - k)
def ordOk (S : zS) (x : Int64) : Prop := x.toBitVec.toNat < 16 ^ sN S 0 1 ∧ isPerm (ordF S x) (sN S 0 1)
def sOrdX (S : zS) (x : Int64) : zS := sOrd S (fun k => if k < sN S 0 1 then ordF S x k else sN S 2 k)
theorem WF.ordX {S : zS} (hW : WF S) {x : Int64} (h : ordOk S x) : WF (sOrdX S x) := by
  have hs := hW.slips
  refine hW.ordd _ (fun k hk => ?_) ⟨fun k hk => ?_, fun i j hi hj => ?_⟩
  · show (if k < sN S 0 1 then ordF S x k else sN S 2 k) < 12
    split
    · next hk2 => exact Nat.lt_of_lt_of_le (h.2.1 k hk2) hs
    · exact hW.ord hk
  · show (if k < sN S 0 1 then ordF S x k else sN S 2 k) < _
    rw [if_pos hk]; exact h.2.1 k hk
  · show (if i < sN S 0 1 then ordF S x i else sN S 2 i) = (if j < sN S 0 1 then ordF S x j else sN S 2 j) → i = j
    rw [if_pos hi, if_pos hj]; exact h.2.2 i j hi hj
noncomputable def sp_order (S : zS) (x : Int64) : Int32 × Value × zS := @ite _ (ordOk S x) (Classical.propDecidable _) (0, .int 1, sOrdX S x) (0, .int 0, S)
theorem sp_order_t {S : zS} {x : Int64} (h : ordOk S x) : sp_order S x = (0, .int 1, sOrdX S x) := if_pos h
theorem sp_order_f {S : zS} {x : Int64} (h : ¬ ordOk S x) : sp_order S x = (0, .int 0, S) := if_neg h
theorem lg_lt0 {x : Int64} : lg_cmp x 0 < 0 ↔ x < 0 := by
  unfold lg_cmp
  by_cases h : x = 0
  · subst h; decide
  · simp only [h, if_false]
    have h0 : x.toInt ≠ 0 := fun z => h (Int64.toInt_inj.mp (z.trans Int64.toInt_zero.symm))
    have e1 : x > 0 ↔ 0 < x.toInt := by show (0 : Int64) < x ↔ _; rw [Int64.lt_iff_toInt_lt, Int64.toInt_zero]
    have e2 : x < 0 ↔ x.toInt < 0 := by rw [Int64.lt_iff_toInt_lt, Int64.toInt_zero]
    rw [e2]
    split
    · next h2 => rw [e1] at h2; exact ⟨fun z => absurd z (by decide), fun z => by omega⟩
    · next h2 => rw [e1] at h2; exact ⟨fun _ => by omega, fun _ => by decide⟩
theorem l64_neg {x : Int64} : x < 0 ↔ lb x 63 = true := by
  have h := BitVec.msb_eq_toInt (x := x.toBitVec)
  rw [BitVec.msb_eq_getLsbD_last] at h
  rw [Int64.lt_iff_toInt_lt, Int64.toInt_zero, show lb x 63 = _ from h, decide_eq_true_eq]
  rfl
/-- what stands behind so many digits -/
def ordB (x L : Int64) (j : Nat) : Prop := ∀ t, t < 64 → lb L t = if 4 * j + t < 64 then lb x (4 * j + t) else lb x 63
theorem ordB_s {x L : Int64} {j : Nat} (hj : j < 12) (h : ordB x L j) : ordB x (L >>> ((4 : Int32).toInt64 &&& 63)) (j + 1) := by
  intro t ht
  rw [show (4 : Int32) = nI 4 from rfl, lb_shr 4 (by decide) L ht]
  by_cases h1 : 4 + t < 64
  · rw [if_pos h1, h _ h1]
    by_cases h2 : 4 * (j + 1) + t < 64
    · rw [if_pos h2, if_pos (by omega), show 4 * j + (4 + t) = 4 * (j + 1) + t by omega]
    · rw [if_neg h2, if_neg (by omega)]
  · rw [if_neg h1, h _ (by omega), if_neg (show ¬ 4 * (j + 1) + t < 64 by omega)]
    by_cases h2 : 4 * j + 63 < 64
    · rw [if_pos h2, show 4 * j + 63 = 63 by omega]
    · rw [if_neg h2]
theorem ordB_z {x L : Int64} {j : Nat} (hj : j ≤ 12) (h : ordB x L j) : (0 ≤ x ∧ L = 0) ↔ x.toBitVec.toNat < 16 ^ j := by
  have e : (16 : Nat) ^ j = 2 ^ (4 * j) := by rw [Nat.pow_mul]
  rw [e]
  constructor
  · rintro ⟨hx, rfl⟩
    have h63 : lb x 63 = false := by
      cases hb : lb x 63
      · rfl
      · have := l64_neg.mpr hb
        exact absurd hx (Int64.not_le.mpr this)
    apply Nat.lt_pow_two_of_testBit
    intro i hi
    rw [← lb_toNat]
    by_cases h64 : i < 64
    · have := h (i - 4 * j) (by omega)
      rw [lb_0, if_pos (by omega), show 4 * j + (i - 4 * j) = i by omega] at this
      exact this.symm
    · exact lb_big (by omega)
  · intro hx
    have hb : ∀ i, 4 * j ≤ i → lb x i = false := fun i hi => by
      rw [lb_toNat]; exact Nat.testBit_lt_two_pow (Nat.lt_of_lt_of_le hx (Nat.pow_le_pow_right (by decide) hi))
    constructor
    · rw [← Int64.not_lt]
      intro hn
      rw [l64_neg, hb 63 (by omega)] at hn
      exact absurd hn (by decide)
    · apply lb_ext
      intro t ht
      rw [h t ht, lb_0]
      split
      · exact hb _ (by omega)
      · exact hb 63 (by omega)
theorem add_m1 (x : Int32) : x + Int32.ofInt (-1) = x - 1 := by rw [show Int32.ofInt (-1) = -1 from by decide, Int32.sub_eq_add_neg]
/-- the digits seen, as bits -/
def ordN (S : zS) (x : Int64) (i : Nat) (B : Int32) : Prop := ∀ d, d < 32 → (ib B d = true ↔ d < sN S 0 1 ∧ ∃ k, i ≤ k ∧ k < sN S 0 1 ∧ ordF S x k = d)
theorem ordN_s {S : zS} {x : Int64} {i : Nat} {B : Int32} (hs : sN S 0 1 ≤ 12) (hi : i < sN S 0 1) (h : ordN S x (i + 1) B) : ordN S x i (B ||| (if ordF S x i < sN S 0 1 then nI (2 ^ ordF S x i) else 0)) := by
  intro d hd
  rw [ib_or, Bool.or_eq_true, h d hd]
  constructor
  · rintro (⟨h1, k, h2, h3, h4⟩ | h1)
    · exact ⟨h1, k, by omega, h3, h4⟩
    · split at h1
      · next hlt =>
        rw [ib_nI hd, Nat.testBit_two_pow, decide_eq_true_eq] at h1
        exact ⟨by omega, i, Nat.le_refl _, hi, h1⟩
      · rw [ib_0] at h1; exact absurd h1 (by decide)
  · rintro ⟨h1, k, h2, h3, h4⟩
    by_cases hk : k = i
    · subst hk
      right
      rw [if_pos (by omega), ib_nI hd, Nat.testBit_two_pow, decide_eq_true_eq]; exact h4
    · exact Or.inl ⟨h1, k, by omega, h3, h4⟩
theorem ordN_full {S : zS} {x : Int64} {B : Int32} (hs : sN S 0 1 ≤ 12) (h : ordN S x 0 B) : B = nI (2 ^ sN S 0 1) - 1 ↔ isPerm (ordF S x) (sN S 0 1) := by
  rw [show nI (2 ^ sN S 0 1) - 1 = nI (2 ^ sN S 0 1 - 1) from nI_sub (Nat.one_le_two_pow)]
  constructor
  · intro hB
    refine pg_si _ _ (fun d hd => ?_)
    have := (h d (by omega)).mp (by rw [hB, ib_nI (by omega), Nat.testBit_two_pow_sub_one, decide_eq_true_eq]; exact hd)
    obtain ⟨_, k, _, h3, h4⟩ := this
    exact ⟨k, h3, h4⟩
  · intro hp
    apply ib_ext
    intro d hd
    rw [ib_nI hd, Nat.testBit_two_pow_sub_one]
    by_cases h1 : d < sN S 0 1
    · obtain ⟨k, hk, hk2⟩ := pg_is _ _ hp d h1
      rw [(h d hd).mpr ⟨h1, k, Nat.zero_le _, hk, hk2⟩]; simp [h1]
    · have : ib B d = false := by
        cases hb : ib B d
        · rfl
        · exact absurd ((h d hd).mp hb).1 h1
      rw [this]; simp [h1]
theorem t_order {g : zg_G} {n : zg_N} {S : zS} (hM : TSh g) (hT : TW n S) (hW : WF S) (x : Int64) : PW zm_X6_order 4 (tQ g n (sp_order S x)) 0 0 0 [(0, .ref aT), (1, .long x)] [] g n := by
  have hs := hW.slips
  have hcp : ordOk S x → ∀ n0, TW n0 S → zfi n0 aT tf_thrown = 0 → zFr tXF tXA n n0 → (∀ k, k < sN S 0 1 → zai n0 at_row k = nI (ordF S x k)) → ∀ L : Int64, ∀ B : Int32, ∀ k, k ≤ sN S 0 1 → ∀ n1, zFr (fun _ _ => False) (fun a => a = at_order) n0 n1 → (∀ j, zal n1 at_order j = zal n0 at_order j) → (∀ j, zai n1 at_order j = if j < k then nI (ordF S x j) else zai n0 at_order j) → PW zm_X6_order 4 (tQ g n (sp_order S x)) 0 0 112 [(0, .ref aT), (1, .long x), (3, .long L), (5, .int B), (6, .int (nI k))] [] g n1 := by
    intro hok n0 hT0 hth hf0 hrow L B
    refine zl_up _ (fun k hk ih n1 hf1 hl1 ho1 => ?_)
    have htold : zai n1 at_told 1 = nI (sN S 0 1) := ((hf1.2 at_told (by decide) 1).1).trans (hT0.told (by decide))
    refine pw_iload dX6_order_112 4 rfl ?_
    refine pw_aload_n dX6_order_114 0 rfl rfl ?_
    refine pw_getr 12 zc_X6 (ts_this hM) (by decide) q1998 (Or.inr ⟨_, rfl⟩) (tr_told hM) dX6_order_115 ?_
    refine pw_iconst (v := 1) dX6_order_118 (by decide) ?_
    refine pw_iald 1 rfl (ts_told hM) (by decide) (by decide) dX6_order_119 ?_
    rw [htold]
    refine pw_icmp_ge_N 143 dX6_order_120 (by decide) (by omega) (by omega) (fun c_120 => ?_) (fun c_120 => ?_)
    · refine pw_iconst (v := 1) dX6_order_143 (by decide) ?_
      refine pw_iret rfl dX6_order_144 ?_
      have hk2 : k = sN S 0 1 := by omega
      subst hk2
      rw [sp_order_t hok]
      refine ⟨rfl, rfl, hT0.ord hW _ hf1 hl1 (fun j hj => ?_), (hf1.1 aT tf_thrown (fun q => q)).1.trans hth, hf0.tr (hf1.mono (fun _ _ q => q.elim) (fun a ha => by subst ha; constructor <;> decide))⟩
      rw [ho1 j]
      show (if j < sN S 0 1 then _ else _) = nI (if j < sN S 0 1 then _ else _)
      split
      · rfl
      · exact hT0.od hj
    · refine pw_aload_n dX6_order_123 0 rfl rfl ?_
      refine pw_getr 21 zc_X6 (ts_this hM) (by decide) q2007 (Or.inr ⟨_, rfl⟩) (tr_order hM) dX6_order_124 ?_
      refine pw_iload dX6_order_127 4 rfl ?_
      refine pw_aload_n dX6_order_129 0 rfl rfl ?_
      refine pw_getr 34 zc_X6 (ts_this hM) (by decide) q2020 (Or.inr ⟨_, rfl⟩) (tr_row hM) dX6_order_130 ?_
      refine pw_iload dX6_order_133 4 rfl ?_
      refine pw_iald _ rfl (ts_row hM) (by omega) (by decide) dX6_order_135 ?_
      rw [(hf1.2 at_row (by decide) k).1, hrow k c_120]
      refine pw_iast _ rfl (ts_order hM) (by decide) (by omega) (by decide) dX6_order_136 ?_
      refine pw_iinc1 (j := 4) (ls' := [(6, _), (0, _), (1, _), (3, _), (5, _)]) dX6_order_137 rfl (by decide) rfl ?_
      refine pw_ls [1, 2, 3, 4, 0] (ls' := [(0, _), (1, _), (3, _), (5, _), (6, _)]) rfl ?_
      refine pw_goto 112 dX6_order_140 (by decide) ?_
      exact ih (k + 1) (by omega) (by omega) _ (hf1.pai rfl) hl1 (fun j => by
        rw [zai_p]
        by_cases hj : j = k
        · subst hj; rw [if_pos ⟨rfl, rfl⟩, if_pos (by omega)]
        · rw [if_neg (fun z => hj z.2), ho1 j]
          by_cases h2 : j < k
          · rw [if_pos h2, if_pos (by omega)]
          · rw [if_neg h2, if_neg (by omega)])
  have hl : ∀ i, i ≤ sN S 0 1 → ∀ n1, TW n1 S → zfi n1 aT tf_thrown = 0 → zFr tXF tXA n n1 → (∀ k, i ≤ k → k < sN S 0 1 → zai n1 at_row k = nI (ordF S x k)) → ∀ L : Int64, ordB x L (sN S 0 1 - i) → ∀ B : Int32, ordN S x i B → PW zm_X6_order 4 (tQ g n (sp_order S x)) 0 0 20 [(0, .ref aT), (1, .long x), (3, .long L), (5, .int B), (6, .int (nI i - 1))] [] g n1 := by
    intro i
    induction i with
    | zero =>
      intro hi n1 hT1 hth hf1 hrow L hL B hB
      have hz := ordB_z (j := sN S 0 1) hs (by rw [Nat.sub_zero] at hL; exact hL)
      refine pw_iload dX6_order_20 4 rfl ?_
      refine pw_if_lt 80 dX6_order_22 (by decide) (fun c_22 => ?_) (fun c_22 => ?_)
      · refine pw_lload_n dX6_order_80 1 rfl rfl ?_
        refine pw_lconst (v := 0) dX6_order_81 rfl ?_
        refine pw_lcmp dX6_order_82 ?_
        refine pw_if_lt 107 dX6_order_83 (by decide) (fun c_83 => ?_) (fun c_83 => ?_)
        · refine pw_iconst (v := 0) dX6_order_107 (by decide) ?_
          refine pw_iret rfl dX6_order_108 ?_
          exact tQ_eq (sp_order_f (fun h => by
            have := (hz.mpr h.1).1
            exact absurd (lg_lt0.mp c_83) (Int64.not_lt.mpr this))) (t_qok hT1 hth hf1 _)
        · refine pw_lload_n dX6_order_86 2 rfl rfl ?_
          refine pw_lconst (v := 0) dX6_order_87 rfl ?_
          refine pw_lcmp dX6_order_88 ?_
          refine pw_if_ne_L 107 dX6_order_89 (by decide) (fun c_89 => ?_) (fun c_89 => ?_)
          · refine pw_iconst (v := 0) dX6_order_107 (by decide) ?_
            refine pw_iret rfl dX6_order_108 ?_
            exact tQ_eq (sp_order_f (fun h => c_89 (hz.mpr h.1).2)) (t_qok hT1 hth hf1 _)
          · refine pw_iload dX6_order_92 3 rfl ?_
            refine pw_iconst (v := 1) dX6_order_94 (by decide) ?_
            refine pw_aload_n dX6_order_95 0 rfl rfl ?_
            refine pw_getr 12 zc_X6 (ts_this hM) (by decide) q1998 (Or.inr ⟨_, rfl⟩) (tr_told hM) dX6_order_96 ?_
            refine pw_iconst (v := 1) dX6_order_99 (by decide) ?_
            refine pw_iald 1 rfl (ts_told hM) (by decide) (by decide) dX6_order_100 ?_
            rw [hT1.told (k := 1) (by decide)]
            refine pw_ishl dX6_order_101 ?_
            rw [ishl1 (by omega)]
            refine pw_iconst (v := 1) dX6_order_102 (by decide) ?_
            refine pw_isub dX6_order_103 ?_
            refine pw_icmp_eq 109 dX6_order_104 (by decide) (fun c_104 => ?_) (fun c_104 => ?_)
            · refine pw_iconst (v := 0) dX6_order_109 (by decide) ?_
              refine pw_istore (ls' := [(6, _), (0, _), (1, _), (3, _), (5, _)]) dX6_order_110 (by decide) rfl ?_
              refine pw_ls [1, 2, 3, 4, 0] (ls' := [(0, _), (1, _), (3, _), (5, _), (6, _)]) rfl ?_
              have hok : ordOk S x := ⟨hz.mp ⟨Int64.not_lt.mp (fun z => c_83 (lg_lt0.mpr z)), c_89⟩, (ordN_full hs hB).mp c_104⟩
              exact hcp hok n1 hT1 hth hf1 (fun k hk => hrow k (Nat.zero_le _) hk) _ _ 0 (Nat.zero_le _) n1 zFr.rf (fun _ => rfl) (fun j => by rw [if_neg (Nat.not_lt_zero _)])
            · refine pw_iconst (v := 0) dX6_order_107 (by decide) ?_
              refine pw_iret rfl dX6_order_108 ?_
              exact tQ_eq (sp_order_f (fun h => c_104 ((ordN_full hs hB).mpr h.2))) (t_qok hT1 hth hf1 _)
      · exact absurd (by decide) c_22
    | succ i ih =>
      intro hi n1 hT1 hth hf1 hrow L hL B hB
      rw [nI_pred]
      have hd : ordF S x i < 16 := dg_lt x (sN S 0 1 - 1 - i)
      refine pw_iload dX6_order_20 4 rfl ?_
      refine pw_if_lt_N 80 dX6_order_22 (by decide) (by omega) (fun c_22 => ?_) (fun c_22 => ?_)
      · exact c_22.elim
      · refine pw_aload_n dX6_order_25 0 rfl rfl ?_
        refine pw_getr 34 zc_X6 (ts_this hM) (by decide) q2020 (Or.inr ⟨_, rfl⟩) (tr_row hM) dX6_order_26 ?_
        refine pw_iload dX6_order_29 4 rfl ?_
        refine pw_lload_n dX6_order_31 2 rfl rfl ?_
        refine pw_ldc2 q2383 dX6_order_32 ?_
        refine pw_land dX6_order_35 ?_
        refine pw_l2i dX6_order_36 ?_
        rw [dg_low (x := x) (j := sN S 0 1 - 1 - i) (fun t ht => by rw [hL t (by omega), if_pos (by omega), show sN S 0 1 - (i + 1) = sN S 0 1 - 1 - i by omega])]
        refine pw_iast _ rfl (ts_row hM) (by decide) (by omega) (by decide) dX6_order_37 ?_
        have hT2 : TW (zpai n1 at_row i (nI (ordF S x i))) S := hT1.keep hW (zFr.rf.pai (by unfold tA; decide))
        have hf2 : zFr tXF tXA n (zpai n1 at_row i (nI (ordF S x i))) := hf1.pai (by constructor <;> decide)
        have hv2 : zai (zpai n1 at_row i (nI (ordF S x i))) at_row i = nI (ordF S x i) := if_pos ⟨rfl, rfl⟩
        have hth2 : zfi (zpai n1 at_row i (nI (ordF S x i))) aT tf_thrown = 0 := hth
        have hrow2 : ∀ k, i ≤ k → k < sN S 0 1 → zai (zpai n1 at_row i (nI (ordF S x i))) at_row k = nI (ordF S x k) := fun k h1 h2 => by
          rw [zai_p]
          by_cases hk : k = i
          · subst hk; rw [if_pos ⟨rfl, rfl⟩]
          · rw [if_neg (fun z => hk z.2)]; exact hrow k (by omega) h2
        generalize zpai n1 at_row i (nI (ordF S x i)) = n2 at hT2 hf2 hv2 hth2 hrow2 ⊢
        refine pw_lload_n dX6_order_38 2 rfl rfl ?_
        refine pw_iconst (v := 4) dX6_order_39 (by decide) ?_
        refine pw_lshr dX6_order_40 ?_
        refine pw_lstore_n (ls' := [(3, _), (0, _), (1, _), (5, _), (6, _)]) dX6_order_41 rfl (by decide) rfl ?_
        refine pw_ls [1, 2, 0, 3, 4] (ls' := [(0, _), (1, _), (3, _), (5, _), (6, _)]) rfl ?_
        refine pw_iload dX6_order_42 3 rfl ?_
        refine pw_aload_n dX6_order_44 0 rfl rfl ?_
        refine pw_aload_n dX6_order_45 0 rfl rfl ?_
        refine pw_getr 34 zc_X6 (ts_this hM) (by decide) q2020 (Or.inr ⟨_, rfl⟩) (tr_row hM) dX6_order_46 ?_
        refine pw_iload dX6_order_49 4 rfl ?_
        refine pw_iald _ rfl (ts_row hM) (by omega) (by decide) dX6_order_51 ?_
        rw [hv2]
        refine pw_callV1 zmM_X6_isSlip rfl (lw_V q2336 q2338 qs90 q150 q2339) rfl (ts_this hM) zc_X6 (t_isSlip hM hT2 hW _) (by decide) (Nat.le_refl _) (Nat.le_refl _) rfl (Nat.le_of_ble_eq_true rfl) (Nat.le_of_ble_eq_true rfl) dX6_order_52 zE.nx (zE_kk ?_)
        refine pw_if_eq_B 70 dX6_order_55 (by decide) (fun c_55 => ?_) (fun c_55 => ?_)
        · refine pw_iconst (v := 0) dX6_order_70 (by decide) ?_
          refine pw_ior dX6_order_71 ?_
          refine pw_istore (ls' := [(5, _), (0, _), (1, _), (3, _), (6, _)]) dX6_order_72 (by decide) rfl ?_
          refine pw_ls [1, 2, 3, 0, 4] (ls' := [(0, _), (1, _), (3, _), (5, _), (6, _)]) rfl ?_
          refine pw_iinc (j := 4) (ls' := [(6, _), (0, _), (1, _), (3, _), (5, _)]) dX6_order_74 rfl rfl (by decide) rfl ?_
          refine pw_ls [1, 2, 3, 4, 0] (ls' := [(0, _), (1, _), (3, _), (5, _), (6, _)]) rfl ?_
          rw [add_m1]
          refine pw_goto 20 dX6_order_77 (by decide) ?_
          have hB2 := ordN_s hs hi hB
          rw [if_neg (fun h => c_55 (inB_nI h (by omega)))] at hB2
          exact ih (by omega) n2 hT2 hth2 hf2 hrow2 _ (by rw [show sN S 0 1 - i = (sN S 0 1 - (i + 1)) + 1 by omega]; exact ordB_s (by omega) hL) _ hB2
        · refine pw_iconst (v := 1) dX6_order_58 (by decide) ?_
          refine pw_aload_n dX6_order_59 0 rfl rfl ?_
          refine pw_getr 34 zc_X6 (ts_this hM) (by decide) q2020 (Or.inr ⟨_, rfl⟩) (tr_row hM) dX6_order_60 ?_
          refine pw_iload dX6_order_63 4 rfl ?_
          refine pw_iald _ rfl (ts_row hM) (by omega) (by decide) dX6_order_65 ?_
          rw [hv2]
          refine pw_ishl dX6_order_66 ?_
          rw [ishl1 (by omega)]
          refine pw_goto 71 dX6_order_67 (by decide) ?_
          refine pw_ior dX6_order_71 ?_
          refine pw_istore (ls' := [(5, _), (0, _), (1, _), (3, _), (6, _)]) dX6_order_72 (by decide) rfl ?_
          refine pw_ls [1, 2, 3, 0, 4] (ls' := [(0, _), (1, _), (3, _), (5, _), (6, _)]) rfl ?_
          refine pw_iinc (j := 4) (ls' := [(6, _), (0, _), (1, _), (3, _), (5, _)]) dX6_order_74 rfl rfl (by decide) rfl ?_
          refine pw_ls [1, 2, 3, 4, 0] (ls' := [(0, _), (1, _), (3, _), (5, _), (6, _)]) rfl ?_
          rw [add_m1]
          refine pw_goto 20 dX6_order_77 (by decide) ?_
          have hB2 := ordN_s hs hi hB
          rw [if_pos (by obtain ⟨j, hj, hj2⟩ := inB_ex (by omega) c_55; have := (nI_eq_iff (by omega) (by omega)).mp hj2; omega)] at hB2
          exact ih (by omega) n2 hT2 hth2 hf2 hrow2 _ (by rw [show sN S 0 1 - i = (sN S 0 1 - (i + 1)) + 1 by omega]; exact ordB_s (by omega) hL) _ hB2
  refine pw_aload_n dX6_order_0 0 rfl rfl ?_
  refine pw_iconst (v := 0) dX6_order_1 (by decide) ?_
  refine pw_puti 0 zc_X6 (ts_this hM) (by decide) (by decide) q1986 rfl (Or.inl rfl) rfl rfl dX6_order_2 ?_
  obtain ⟨hT0, hth, hf0⟩ := t_start hT hW; generalize zpfi n aT 0 0 = n0 at hT0 hth hf0 ⊢
  refine pw_lload_n dX6_order_5 1 rfl rfl ?_
  refine pw_lstore_n (ls' := [(3, _), (0, _), (1, _)]) dX6_order_6 rfl (by decide) rfl ?_
  refine pw_ls [1, 2, 0] (ls' := [(0, _), (1, _), (3, _)]) rfl ?_
  refine pw_iconst (v := 0) dX6_order_7 (by decide) ?_
  refine pw_istore (ls' := [(5, _), (0, _), (1, _), (3, _)]) dX6_order_8 (by decide) rfl ?_
  refine pw_ls [1, 2, 3, 0] (ls' := [(0, _), (1, _), (3, _), (5, _)]) rfl ?_
  refine pw_aload_n dX6_order_10 0 rfl rfl ?_
  refine pw_getr 12 zc_X6 (ts_this hM) (by decide) q1998 (Or.inr ⟨_, rfl⟩) (tr_told hM) dX6_order_11 ?_
  refine pw_iconst (v := 1) dX6_order_14 (by decide) ?_
  refine pw_iald 1 rfl (ts_told hM) (by decide) (by decide) dX6_order_15 ?_
  rw [hT0.told (k := 1) (by decide)]
  refine pw_iconst (v := 1) dX6_order_16 (by decide) ?_
  refine pw_isub dX6_order_17 ?_
  refine pw_istore (ls' := [(6, _), (0, _), (1, _), (3, _), (5, _)]) dX6_order_18 (by decide) rfl ?_
  refine pw_ls [1, 2, 3, 4, 0] (ls' := [(0, _), (1, _), (3, _), (5, _), (6, _)]) rfl ?_
  exact hl _ (Nat.le_refl _) n0 hT0 hth hf0 (fun k h1 h2 => absurd h1 (by omega)) x (fun t ht => by rw [Nat.sub_self, if_pos (by omega), Nat.mul_zero, Nat.zero_add]) 0 (fun d _ => by rw [ib_0]; exact ⟨fun h => absurd h (by decide), fun ⟨_, k, h1, h2, _⟩ => absurd h1 (by omega)⟩)

/-! ===== the reference: who falls by a tongue ===== -/
section PWS
variable {Y : zY} {d : Nat} {P : zP} {bc bs pc : Nat} {ls : List (Nat × Value)} {st : List Value} {g : zg_G} {n : zg_N}
theorem pw_case {x : Int32} (c : Int32) (kt : x = c → PW Y d P bc bs pc ls (.int c :: st) g n) (kf : ¬ x = c → PW Y d P bc bs pc ls (.int x :: st) g n) : PW Y d P bc bs pc ls (.int x :: st) g n := by
  by_cases h : x = c
  · rw [h]; exact kt h
  · exact kf h
theorem pw_case_N {a : Nat} (c : Nat) (ha : a < 2147483648) (hc : c < 2147483648) (kt : a = c → PW Y d P bc bs pc ls (.int (nI c) :: st) g n) (kf : ¬ a = c → PW Y d P bc bs pc ls (.int (nI a) :: st) g n) : PW Y d P bc bs pc ls (.int (nI a) :: st) g n := by
  by_cases h : a = c
  · rw [h]; exact kt h
  · exact kf h
theorem i32_ne {x c : Int32} (k : Int) (hc : c.toInt = k) (h : ¬ x = c) : ¬ x.toInt = k := fun z => h (Int32.toInt_inj.mp (z.trans hc.symm))
end PWS
def spFc (S : zS) (o k : Nat) (age hurt held : Int32) (w : Nat) : Nat → Int32
  | 0 => age
  | 1 => hurt
  | 2 => nI (lc (sL S 0 o))
  | 3 => nI (lc (sL S 0 k))
  | 4 => nI o
  | 5 => nI k
  | 6 => nI w
  | 7 => held
  | 8 => nI (lc (sL S 2 w))
  | _ => nI (lc (sL S 0 o &&& sL S 0 k))
/-- what two that meet are, is told -/
def TMt (n : zg_N) (o k : Nat) (age hurt held : Int32) (w : Nat) : Prop := zai n at_meets 0 = nI o ∧ zai n at_meets 1 = nI k ∧ zai n at_meets 2 = age ∧ zai n at_meets 3 = hurt ∧ zai n at_meets 4 = held ∧ zai n at_meets 5 = nI w
theorem t_valueOf {g : zg_G} {n : zg_N} {S : zS} (hM : TSh g) (hT : TW n S) (hW : WF S) {o k w : Nat} {age hurt held : Int32} (ho : okb S o) (hk : okb S k) (hw : w < 52) (hm : TMt n o k age hurt held w) (j : Nat) (hj : j < 10) : PW zm_X6_valueOf 2 (zE (some (.int (spFc S o k age hurt held w j))) g n) 0 0 0 [(0, .ref aT), (1, .int (nI j))] [] g n := by
  obtain ⟨m0, m1, m2, m3, m4, m5⟩ := hm
  have ho2 := ho.lt hW
  have hk2 := hk.lt hW
  refine pw_iload_n dX6_valueOf_0 1 rfl rfl ?_
  refine pw_case_N 0 (by omega) (by decide) (fun c_1 => ?_) (fun n_1_0 => ?_)
  · refine pw_tableIn 52 dX6_valueOf_1 (by decide) (by decide) rfl (by decide) ?_
    refine pw_aload_n dX6_valueOf_52 0 rfl rfl ?_
    refine pw_getr 49 zc_X6 (ts_this hM) (by decide) q2035 (Or.inr ⟨_, rfl⟩) (tr_meets hM) dX6_valueOf_53 ?_
    refine pw_iconst (v := 2) dX6_valueOf_56 (by decide) ?_
    refine pw_iald 2 rfl (ts_meets hM) (by decide) (by decide) dX6_valueOf_57 ?_
    rw [m2]
    refine pw_iret rfl dX6_valueOf_58 ?_
    subst c_1; exact ⟨rfl, rfl, rfl⟩
  refine pw_case_N 1 (by omega) (by decide) (fun c_1 => ?_) (fun n_1_1 => ?_)
  · refine pw_tableIn 59 dX6_valueOf_1 (by decide) (by decide) rfl (by decide) ?_
    refine pw_aload_n dX6_valueOf_59 0 rfl rfl ?_
    refine pw_getr 49 zc_X6 (ts_this hM) (by decide) q2035 (Or.inr ⟨_, rfl⟩) (tr_meets hM) dX6_valueOf_60 ?_
    refine pw_iconst (v := 3) dX6_valueOf_63 (by decide) ?_
    refine pw_iald 3 rfl (ts_meets hM) (by decide) (by decide) dX6_valueOf_64 ?_
    rw [m3]
    refine pw_iret rfl dX6_valueOf_65 ?_
    subst c_1; exact ⟨rfl, rfl, rfl⟩
  refine pw_case_N 2 (by omega) (by decide) (fun c_1 => ?_) (fun n_1_2 => ?_)
  · refine pw_tableIn 66 dX6_valueOf_1 (by decide) (by decide) rfl (by decide) ?_
    refine pw_aload_n dX6_valueOf_66 0 rfl rfl ?_
    refine pw_getr 16 zc_X6 (ts_this hM) (by decide) q2002 (Or.inr ⟨_, rfl⟩) (tr_models hM) dX6_valueOf_67 ?_
    refine pw_aload_n dX6_valueOf_70 0 rfl rfl ?_
    refine pw_getr 49 zc_X6 (ts_this hM) (by decide) q2035 (Or.inr ⟨_, rfl⟩) (tr_meets hM) dX6_valueOf_71 ?_
    refine pw_iconst (v := 0) dX6_valueOf_74 (by decide) ?_
    refine pw_iald 0 rfl (ts_meets hM) (by decide) (by decide) dX6_valueOf_75 ?_
    rw [m0]
    refine pw_lald _ rfl (ts_models hM) (by omega) (by decide) dX6_valueOf_76 ?_
    rw [hT.md ho]
    refine pw_callS1 zmM_X6_ones rfl (lw_S q2277 q2278 q150 q2279) (t_ones _ g n) (by decide) (Nat.le_refl _) (Nat.le_refl _) rfl (Nat.le_of_ble_eq_true rfl) (Nat.le_of_ble_eq_true rfl) dX6_valueOf_77 zE.nx (zE_kk ?_)
    refine pw_iret rfl dX6_valueOf_80 ?_
    subst c_1; exact ⟨rfl, rfl, rfl⟩
  refine pw_case_N 3 (by omega) (by decide) (fun c_1 => ?_) (fun n_1_3 => ?_)
  · refine pw_tableIn 81 dX6_valueOf_1 (by decide) (by decide) rfl (by decide) ?_
    refine pw_aload_n dX6_valueOf_81 0 rfl rfl ?_
    refine pw_getr 16 zc_X6 (ts_this hM) (by decide) q2002 (Or.inr ⟨_, rfl⟩) (tr_models hM) dX6_valueOf_82 ?_
    refine pw_aload_n dX6_valueOf_85 0 rfl rfl ?_
    refine pw_getr 49 zc_X6 (ts_this hM) (by decide) q2035 (Or.inr ⟨_, rfl⟩) (tr_meets hM) dX6_valueOf_86 ?_
    refine pw_iconst (v := 1) dX6_valueOf_89 (by decide) ?_
    refine pw_iald 1 rfl (ts_meets hM) (by decide) (by decide) dX6_valueOf_90 ?_
    rw [m1]
    refine pw_lald _ rfl (ts_models hM) (by omega) (by decide) dX6_valueOf_91 ?_
    rw [hT.md hk]
    refine pw_callS1 zmM_X6_ones rfl (lw_S q2277 q2278 q150 q2279) (t_ones _ g n) (by decide) (Nat.le_refl _) (Nat.le_refl _) rfl (Nat.le_of_ble_eq_true rfl) (Nat.le_of_ble_eq_true rfl) dX6_valueOf_92 zE.nx (zE_kk ?_)
    refine pw_iret rfl dX6_valueOf_95 ?_
    subst c_1; exact ⟨rfl, rfl, rfl⟩
  refine pw_case_N 4 (by omega) (by decide) (fun c_1 => ?_) (fun n_1_4 => ?_)
  · refine pw_tableIn 96 dX6_valueOf_1 (by decide) (by decide) rfl (by decide) ?_
    refine pw_aload_n dX6_valueOf_96 0 rfl rfl ?_
    refine pw_getr 49 zc_X6 (ts_this hM) (by decide) q2035 (Or.inr ⟨_, rfl⟩) (tr_meets hM) dX6_valueOf_97 ?_
    refine pw_iconst (v := 0) dX6_valueOf_100 (by decide) ?_
    refine pw_iald 0 rfl (ts_meets hM) (by decide) (by decide) dX6_valueOf_101 ?_
    rw [m0]
    refine pw_iret rfl dX6_valueOf_102 ?_
    subst c_1; exact ⟨rfl, rfl, rfl⟩
  refine pw_case_N 5 (by omega) (by decide) (fun c_1 => ?_) (fun n_1_5 => ?_)
  · refine pw_tableIn 103 dX6_valueOf_1 (by decide) (by decide) rfl (by decide) ?_
    refine pw_aload_n dX6_valueOf_103 0 rfl rfl ?_
    refine pw_getr 49 zc_X6 (ts_this hM) (by decide) q2035 (Or.inr ⟨_, rfl⟩) (tr_meets hM) dX6_valueOf_104 ?_
    refine pw_iconst (v := 1) dX6_valueOf_107 (by decide) ?_
    refine pw_iald 1 rfl (ts_meets hM) (by decide) (by decide) dX6_valueOf_108 ?_
    rw [m1]
    refine pw_iret rfl dX6_valueOf_109 ?_
    subst c_1; exact ⟨rfl, rfl, rfl⟩
  refine pw_case_N 6 (by omega) (by decide) (fun c_1 => ?_) (fun n_1_6 => ?_)
  · refine pw_tableIn 110 dX6_valueOf_1 (by decide) (by decide) rfl (by decide) ?_
    refine pw_aload_n dX6_valueOf_110 0 rfl rfl ?_
    refine pw_getr 49 zc_X6 (ts_this hM) (by decide) q2035 (Or.inr ⟨_, rfl⟩) (tr_meets hM) dX6_valueOf_111 ?_
    refine pw_iconst (v := 5) dX6_valueOf_114 (by decide) ?_
    refine pw_iald 5 rfl (ts_meets hM) (by decide) (by decide) dX6_valueOf_115 ?_
    rw [m5]
    refine pw_iret rfl dX6_valueOf_116 ?_
    subst c_1; exact ⟨rfl, rfl, rfl⟩
  refine pw_case_N 7 (by omega) (by decide) (fun c_1 => ?_) (fun n_1_7 => ?_)
  · refine pw_tableIn 117 dX6_valueOf_1 (by decide) (by decide) rfl (by decide) ?_
    refine pw_aload_n dX6_valueOf_117 0 rfl rfl ?_
    refine pw_getr 49 zc_X6 (ts_this hM) (by decide) q2035 (Or.inr ⟨_, rfl⟩) (tr_meets hM) dX6_valueOf_118 ?_
    refine pw_iconst (v := 4) dX6_valueOf_121 (by decide) ?_
    refine pw_iald 4 rfl (ts_meets hM) (by decide) (by decide) dX6_valueOf_122 ?_
    rw [m4]
    refine pw_iret rfl dX6_valueOf_123 ?_
    subst c_1; exact ⟨rfl, rfl, rfl⟩
  refine pw_case_N 8 (by omega) (by decide) (fun c_1 => ?_) (fun n_1_8 => ?_)
  · refine pw_tableIn 124 dX6_valueOf_1 (by decide) (by decide) rfl (by decide) ?_
    refine pw_aload_n dX6_valueOf_124 0 rfl rfl ?_
    refine pw_getr 19 zc_X6 (ts_this hM) (by decide) q2005 (Or.inr ⟨_, rfl⟩) (tr_leftIn hM) dX6_valueOf_125 ?_
    refine pw_aload_n dX6_valueOf_128 0 rfl rfl ?_
    refine pw_getr 49 zc_X6 (ts_this hM) (by decide) q2035 (Or.inr ⟨_, rfl⟩) (tr_meets hM) dX6_valueOf_129 ?_
    refine pw_iconst (v := 5) dX6_valueOf_132 (by decide) ?_
    refine pw_iald 5 rfl (ts_meets hM) (by decide) (by decide) dX6_valueOf_133 ?_
    rw [m5]
    refine pw_lald _ rfl (ts_leftIn hM) (by omega) (by decide) dX6_valueOf_134 ?_
    rw [hT.lf hw]
    refine pw_callS1 zmM_X6_ones rfl (lw_S q2277 q2278 q150 q2279) (t_ones _ g n) (by decide) (Nat.le_refl _) (Nat.le_refl _) rfl (Nat.le_of_ble_eq_true rfl) (Nat.le_of_ble_eq_true rfl) dX6_valueOf_135 zE.nx (zE_kk ?_)
    refine pw_iret rfl dX6_valueOf_138 ?_
    subst c_1; exact ⟨rfl, rfl, rfl⟩
  refine pw_tableOut 139 dX6_valueOf_1 (by rw [nI_toInt (by omega)]; omega) (by decide) ?_
  refine pw_aload_n dX6_valueOf_139 0 rfl rfl ?_
  refine pw_getr 16 zc_X6 (ts_this hM) (by decide) q2002 (Or.inr ⟨_, rfl⟩) (tr_models hM) dX6_valueOf_140 ?_
  refine pw_aload_n dX6_valueOf_143 0 rfl rfl ?_
  refine pw_getr 49 zc_X6 (ts_this hM) (by decide) q2035 (Or.inr ⟨_, rfl⟩) (tr_meets hM) dX6_valueOf_144 ?_
  refine pw_iconst (v := 0) dX6_valueOf_147 (by decide) ?_
  refine pw_iald 0 rfl (ts_meets hM) (by decide) (by decide) dX6_valueOf_148 ?_
  rw [m0]
  refine pw_lald _ rfl (ts_models hM) (by omega) (by decide) dX6_valueOf_149 ?_
  rw [hT.md ho]
  refine pw_aload_n dX6_valueOf_150 0 rfl rfl ?_
  refine pw_getr 16 zc_X6 (ts_this hM) (by decide) q2002 (Or.inr ⟨_, rfl⟩) (tr_models hM) dX6_valueOf_151 ?_
  refine pw_aload_n dX6_valueOf_154 0 rfl rfl ?_
  refine pw_getr 49 zc_X6 (ts_this hM) (by decide) q2035 (Or.inr ⟨_, rfl⟩) (tr_meets hM) dX6_valueOf_155 ?_
  refine pw_iconst (v := 1) dX6_valueOf_158 (by decide) ?_
  refine pw_iald 1 rfl (ts_meets hM) (by decide) (by decide) dX6_valueOf_159 ?_
  rw [m1]
  refine pw_lald _ rfl (ts_models hM) (by omega) (by decide) dX6_valueOf_160 ?_
  rw [hT.md hk]
  refine pw_land dX6_valueOf_161 ?_
  refine pw_callS1 zmM_X6_ones rfl (lw_S q2277 q2278 q150 q2279) (t_ones _ g n) (by decide) (Nat.le_refl _) (Nat.le_refl _) rfl (Nat.le_of_ble_eq_true rfl) (Nat.le_of_ble_eq_true rfl) dX6_valueOf_162 zE.nx (zE_kk ?_)
  refine pw_iret rfl dX6_valueOf_165 ?_
  exact ⟨by rw [show j = 9 by omega]; rfl, rfl, rfl⟩
theorem t_by (h : Nat) (hh : h < 20) (u v : Int32) (g : zg_G) (n : zg_N) : PW zm_X6_by 1 (zE (some (.int (tBy h u v))) g n) 0 0 0 [(0, .int (nI h)), (1, .int u), (2, .int v)] [] g n := by
  refine pw_iload_n dX6_by_0 0 rfl rfl ?_
  refine pw_case_N 2 (by omega) (by decide) (fun c_1 => ?_) (fun n_1_2 => ?_)
  · refine pw_tableIn 48 dX6_by_1 (by decide) (by decide) rfl (by decide) ?_
    refine pw_iload_n dX6_by_48 1 rfl rfl ?_
    refine pw_iload_n dX6_by_49 2 rfl rfl ?_
    refine pw_iadd dX6_by_50 ?_
    refine pw_iret rfl dX6_by_51 ?_
    subst c_1; exact ⟨rfl, rfl, rfl⟩
  refine pw_case_N 3 (by omega) (by decide) (fun c_1 => ?_) (fun n_1_3 => ?_)
  · refine pw_tableIn 52 dX6_by_1 (by decide) (by decide) rfl (by decide) ?_
    refine pw_iload_n dX6_by_52 1 rfl rfl ?_
    refine pw_iload_n dX6_by_53 2 rfl rfl ?_
    refine pw_isub dX6_by_54 ?_
    refine pw_iret rfl dX6_by_55 ?_
    subst c_1; exact ⟨rfl, rfl, rfl⟩
  refine pw_case_N 4 (by omega) (by decide) (fun c_1 => ?_) (fun n_1_4 => ?_)
  · refine pw_tableIn 56 dX6_by_1 (by decide) (by decide) rfl (by decide) ?_
    refine pw_iload_n dX6_by_56 1 rfl rfl ?_
    refine pw_iload_n dX6_by_57 2 rfl rfl ?_
    refine pw_imul dX6_by_58 ?_
    refine pw_iret rfl dX6_by_59 ?_
    subst c_1; exact ⟨rfl, rfl, rfl⟩
  refine pw_case_N 5 (by omega) (by decide) (fun c_1 => ?_) (fun n_1_5 => ?_)
  · refine pw_tableIn 60 dX6_by_1 (by decide) (by decide) rfl (by decide) ?_
    refine pw_iload_n dX6_by_60 1 rfl rfl ?_
    refine pw_iload_n dX6_by_61 2 rfl rfl ?_
    refine pw_icmp_ge 69 dX6_by_62 (by decide) (fun c_62 => ?_) (fun c_62 => ?_)
    · refine pw_iconst (v := 0) dX6_by_69 (by decide) ?_
      refine pw_iret rfl dX6_by_70 ?_
      subst c_1; exact ⟨by show _ = Sum.inl (some (Value.int (zb (u < v)))); rw [zb_f (Int32.not_lt.mpr c_62)], rfl, rfl⟩
    · refine pw_iconst (v := 1) dX6_by_65 (by decide) ?_
      refine pw_goto 70 dX6_by_66 (by decide) ?_
      refine pw_iret rfl dX6_by_70 ?_
      subst c_1; exact ⟨by show _ = Sum.inl (some (Value.int (zb (u < v)))); rw [zb_t (Int32.not_le.mp c_62)], rfl, rfl⟩
  refine pw_case_N 6 (by omega) (by decide) (fun c_1 => ?_) (fun n_1_6 => ?_)
  · refine pw_tableIn 71 dX6_by_1 (by decide) (by decide) rfl (by decide) ?_
    refine pw_iload_n dX6_by_71 1 rfl rfl ?_
    refine pw_iload_n dX6_by_72 2 rfl rfl ?_
    refine pw_icmp_le 80 dX6_by_73 (by decide) (fun c_73 => ?_) (fun c_73 => ?_)
    · refine pw_iconst (v := 0) dX6_by_80 (by decide) ?_
      refine pw_iret rfl dX6_by_81 ?_
      subst c_1; exact ⟨by show _ = Sum.inl (some (Value.int (zb (v < u)))); rw [zb_f (Int32.not_lt.mpr c_73)], rfl, rfl⟩
    · refine pw_iconst (v := 1) dX6_by_76 (by decide) ?_
      refine pw_goto 81 dX6_by_77 (by decide) ?_
      refine pw_iret rfl dX6_by_81 ?_
      subst c_1; exact ⟨by show _ = Sum.inl (some (Value.int (zb (v < u)))); rw [zb_t (Int32.not_le.mp c_73)], rfl, rfl⟩
  refine pw_case_N 7 (by omega) (by decide) (fun c_1 => ?_) (fun n_1_7 => ?_)
  · refine pw_tableIn 82 dX6_by_1 (by decide) (by decide) rfl (by decide) ?_
    refine pw_iload_n dX6_by_82 1 rfl rfl ?_
    refine pw_iload_n dX6_by_83 2 rfl rfl ?_
    refine pw_icmp_ne 91 dX6_by_84 (by decide) (fun c_84 => ?_) (fun c_84 => ?_)
    · refine pw_iconst (v := 0) dX6_by_91 (by decide) ?_
      refine pw_iret rfl dX6_by_92 ?_
      subst c_1; exact ⟨by show _ = Sum.inl (some (Value.int (zb (u = v)))); rw [zb_f c_84], rfl, rfl⟩
    · refine pw_iconst (v := 1) dX6_by_87 (by decide) ?_
      refine pw_goto 92 dX6_by_88 (by decide) ?_
      refine pw_iret rfl dX6_by_92 ?_
      subst c_1; exact ⟨by show _ = Sum.inl (some (Value.int (zb (u = v)))); rw [zb_t c_84], rfl, rfl⟩
  refine pw_case_N 8 (by omega) (by decide) (fun c_1 => ?_) (fun n_1_8 => ?_)
  · refine pw_tableIn 97 dX6_by_1 (by decide) (by decide) rfl (by decide) ?_
    refine pw_iload_n dX6_by_97 1 rfl rfl ?_
    refine pw_iload_n dX6_by_98 2 rfl rfl ?_
    refine pw_iadd dX6_by_99 ?_
    refine pw_if_le 107 dX6_by_100 (by decide) (fun c_100 => ?_) (fun c_100 => ?_)
    · refine pw_iconst (v := 0) dX6_by_107 (by decide) ?_
      refine pw_iret rfl dX6_by_108 ?_
      have e : tBy h u v = zb (0 < u + v) := by unfold tBy; rw [if_neg (by omega), if_neg (by omega), if_neg (by omega), if_neg (by omega), if_neg (by omega), if_neg (by omega), if_neg (by omega)]
      exact ⟨by rw [e, zb_f (Int32.not_lt.mpr c_100)], rfl, rfl⟩
    · refine pw_iconst (v := 1) dX6_by_103 (by decide) ?_
      refine pw_goto 108 dX6_by_104 (by decide) ?_
      refine pw_iret rfl dX6_by_108 ?_
      have e : tBy h u v = zb (0 < u + v) := by unfold tBy; rw [if_neg (by omega), if_neg (by omega), if_neg (by omega), if_neg (by omega), if_neg (by omega), if_neg (by omega), if_neg (by omega)]
      exact ⟨by rw [e, zb_t (Int32.not_le.mp c_100)], rfl, rfl⟩
  refine pw_case_N 9 (by omega) (by decide) (fun c_1 => ?_) (fun n_1_9 => ?_)
  · refine pw_tableIn 93 dX6_by_1 (by decide) (by decide) rfl (by decide) ?_
    refine pw_iload_n dX6_by_93 1 rfl rfl ?_
    refine pw_iload_n dX6_by_94 2 rfl rfl ?_
    refine pw_imul dX6_by_95 ?_
    refine pw_iret rfl dX6_by_96 ?_
    subst c_1; exact ⟨rfl, rfl, rfl⟩
  refine pw_tableOut 97 dX6_by_1 (by rw [nI_toInt (by omega)]; omega) (by decide) ?_
  refine pw_iload_n dX6_by_97 1 rfl rfl ?_
  refine pw_iload_n dX6_by_98 2 rfl rfl ?_
  refine pw_iadd dX6_by_99 ?_
  refine pw_if_le 107 dX6_by_100 (by decide) (fun c_100 => ?_) (fun c_100 => ?_)
  · refine pw_iconst (v := 0) dX6_by_107 (by decide) ?_
    refine pw_iret rfl dX6_by_108 ?_
    have e : tBy h u v = zb (0 < u + v) := by unfold tBy; rw [if_neg (by omega), if_neg (by omega), if_neg (by omega), if_neg (by omega), if_neg (by omega), if_neg (by omega), if_neg (by omega)]
    exact ⟨by rw [e, zb_f (Int32.not_lt.mpr c_100)], rfl, rfl⟩
  · refine pw_iconst (v := 1) dX6_by_103 (by decide) ?_
    refine pw_goto 108 dX6_by_104 (by decide) ?_
    refine pw_iret rfl dX6_by_108 ?_
    have e : tBy h u v = zb (0 < u + v) := by unfold tBy; rw [if_neg (by omega), if_neg (by omega), if_neg (by omega), if_neg (by omega), if_neg (by omega), if_neg (by omega), if_neg (by omega)]
    exact ⟨by rw [e, zb_t (Int32.not_le.mp c_100)], rfl, rfl⟩
/-- the stack of a run, its top first -/
def Stk (n : zg_N) : List Int32 → Prop
  | [] => True
  | v :: r => zai n at_stack r.length = v ∧ Stk n r
theorem Stk.put {n : zg_N} : ∀ {st : List Int32} {j : Nat} {v : Int32}, Stk n st → st.length ≤ j → Stk (zpai n at_stack j v) st
  | [], _, _, _, _ => trivial
  | u :: r, j, v, h, hj => ⟨(if_neg (fun z => by have := z.2; simp only [List.length_cons] at hj; omega)).trans h.1, Stk.put h.2 (by simp only [List.length_cons] at hj; omega)⟩
theorem Stk.push {n : zg_N} {st : List Int32} {v : Int32} (h : Stk n st) : Stk (zpai n at_stack st.length v) (v :: st) := ⟨if_pos ⟨rfl, rfl⟩, h.put (Nat.le_refl _)⟩
/-- what a tongue may write -/
def zB0 (_ _ : Nat) : Prop := False
def zBs (a : Nat) : Prop := a = at_stack
def zBm (a : Nat) : Prop := a = at_stack ∨ a = at_meets
theorem zBs_tA : ∀ a, zBs a → tA a := fun a h => by subst h; unfold tA; decide
theorem zBm_tA : ∀ a, zBm a → tA a := fun a h => by rcases h with rfl | rfl <;> (unfold tA; decide)
theorem TMt.keep {n n' : zg_N} {o k : Nat} {age hurt held : Int32} {w : Nat} (h : TMt n o k age hurt held w) (hf : zFr zB0 zBs n n') : TMt n' o k age hurt held w := by
  have e : ∀ j, zai n' at_meets j = zai n at_meets j := fun j => (hf.2 at_meets (by show ¬ at_meets = at_stack; decide) j).1
  obtain ⟨m0, m1, m2, m3, m4, m5⟩ := h
  exact ⟨(e _).trans m0, (e _).trans m1, (e _).trans m2, (e _).trans m3, (e _).trans m4, (e _).trans m5⟩
theorem tRun_s (fc : Nat → Int32) (c : Nat → Nat × Int32) (i m : Nat) (st : List Int32) : tRun fc c i (m + 1) st = tRun fc c (i + 1) m (tStep fc (c i) st) := rfl
theorem t_isSo {g : zg_G} {n : zg_N} {S : zS} (hM : TSh g) (hT : TW n S) (hW : WF S) {o k w : Nat} {age hurt held : Int32} (ho : okb S o) (hk : okb S k) (hw : w < 52) (hm : TMt n o k age hurt held w)
    {c : Nat → Nat × Int32} {N : Nat} (hN : N ≤ 200) (hc : tCd n c N) {i m : Nat} (him : i + m ≤ N) {f : zG} (hg : tGr c i m f) : PW zm_X6_isSo 3 (fun q g1 n1 => q = .inl (some (.int (zb (f (spFc S o k age hurt held w) = true)))) ∧ g1 = g ∧ zFr zB0 zBs n n1) 0 0 0 [(0, .ref aT), (1, .int (nI i)), (2, .int (nI (i + m)))] [] g n := by
  have hl : ∀ (m2 i2 : Nat) (st : List Int32) (n1 : zg_N), i2 + m2 = i + m → st.length ≤ i2 → zFr zB0 zBs n n1 → Stk n1 st → tOk c i2 m2 st.length 1 → tRun (spFc S o k age hurt held w) c i2 m2 st = [if f (spFc S o k age hurt held w) then 1 else 0] →
      PW zm_X6_isSo 3 (fun q g1 n1 => q = .inl (some (.int (zb (f (spFc S o k age hurt held w) = true)))) ∧ g1 = g ∧ zFr zB0 zBs n n1) 0 0 5 [(0, .ref aT), (1, .int (nI i)), (2, .int (nI (i + m))), (3, .int (nI st.length)), (4, .int (nI i2))] [] g n1 := by
    intro m2
    induction m2 with
    | zero =>
      intro i2 st n1 hi hsl hf hS hO hR
      have hst : st = [if f (spFc S o k age hurt held w) then 1 else 0] := hR
      have hv : zai n1 at_stack 0 = if f (spFc S o k age hurt held w) then 1 else 0 := by rw [hst] at hS; exact hS.1
      refine pw_iload dX6_isSo_5 4 rfl ?_
      refine pw_iload_n dX6_isSo_7 2 rfl rfl ?_
      refine pw_icmp_ge_N 134 dX6_isSo_8 (by decide) (by omega) (by omega) (fun c_8 => ?_) (fun c_8 => ?_)
      · refine pw_aload_n dX6_isSo_134 0 rfl rfl ?_
        refine pw_getr 33 zc_X6 (ts_this hM) (by decide) q2019 (Or.inr ⟨_, rfl⟩) (tr_stack hM) dX6_isSo_135 ?_
        refine pw_iconst (v := 0) dX6_isSo_138 (by decide) ?_
        refine pw_iald 0 rfl (ts_stack hM) (by decide) (by decide) dX6_isSo_139 ?_
        rw [hv]
        refine pw_iconst (v := 1) dX6_isSo_140 (by decide) ?_
        refine pw_icmp_ne 148 dX6_isSo_141 (by decide) (fun c_141 => ?_) (fun c_141 => ?_)
        · refine pw_iconst (v := 0) dX6_isSo_148 (by decide) ?_
          refine pw_zret _ rfl rfl dX6_isSo_149 ?_
          exact ⟨by rw [zb_f (fun h => c_141 (by rw [h]; rfl))], rfl, hf⟩
        · refine pw_iconst (v := 1) dX6_isSo_144 (by decide) ?_
          refine pw_goto 149 dX6_isSo_145 (by decide) ?_
          refine pw_zret _ rfl rfl dX6_isSo_149 ?_
          exact ⟨by rw [zb_t (by cases hz : f (spFc S o k age hurt held w); rw [hz] at c_141; exact absurd c_141 (by decide); rfl)], rfl, hf⟩
      · exact absurd c_8 (by omega)
    | succ m2 ih =>
      intro i2 st n1 hi hsl hf hS hO hR
      have hT1 := hT.keep hW (hf.mono (fun _ _ h => h.elim) zBs_tA)
      have hm1 := hm.keep hf
      have hc1 : ∀ i, i < N → zai n1 (at_code + 1 + i) 0 = nI (c i).1 ∧ zai n1 (at_code + 1 + i) 1 = (c i).2 := fun i hi => by
        have e := hf.2 (at_code + 1 + i) (by show ¬ 1084 + 1 + i = 1526; omega)
        exact ⟨(e 0).1.trans (hc i hi).1, (e 1).1.trans (hc i hi).2⟩
      have q0 := (hc1 i2 (by omega)).1
      have q1 := (hc1 i2 (by omega)).2
      rw [tRun_s] at hR
      have hhow : (c i2).1 ≤ 10 := by
        rcases hO with ⟨h, _⟩ | ⟨h, _⟩ | ⟨h, _⟩ | ⟨_, _, h, _⟩ <;> omega
      refine pw_iload dX6_isSo_5 4 rfl ?_
      refine pw_iload_n dX6_isSo_7 2 rfl rfl ?_
      refine pw_icmp_ge_N 134 dX6_isSo_8 (by decide) (by omega) (by omega) (fun c_8 => ?_) (fun c_8 => ?_)
      · exact absurd c_8 (by omega)
      · refine pw_aload_n dX6_isSo_11 0 rfl rfl ?_
        refine pw_getr 31 zc_X6 (ts_this hM) (by decide) q2017 (Or.inr ⟨_, rfl⟩) (tr_code hM) dX6_isSo_12 ?_
        refine pw_iload dX6_isSo_15 4 rfl ?_
        refine pw_aald i2 rfl (ts_code hM) rfl (Or.inr ⟨_, rfl⟩) (tw_code hM i2 (by omega)) (by omega) (by decide) dX6_isSo_17 ?_
        refine pw_iconst (v := 0) dX6_isSo_18 (by decide) ?_
        refine pw_iald 0 rfl (tv_code hM i2 (by omega)) (by decide) (by decide) dX6_isSo_19 ?_
        rw [q0]
        refine pw_istore (ls' := [(5, _), (0, _), (1, _), (2, _), (3, _), (4, _)]) dX6_isSo_20 (by decide) rfl ?_
        refine pw_ls [1, 2, 3, 4, 5, 0] (ls' := [(0, _), (1, _), (2, _), (3, _), (4, _), (5, _)]) rfl ?_
        refine pw_iload dX6_isSo_22 5 rfl ?_
        refine pw_iconst (v := 2) dX6_isSo_24 (by decide) ?_
        refine pw_icmp_ge_N (b := 2) 70 dX6_isSo_25 (by decide) (by omega) (by omega) (fun c_25 => ?_) (fun c_25 => ?_)
        · refine pw_iload dX6_isSo_70 5 rfl ?_
          refine pw_bipush (v := 8) dX6_isSo_72 (by decide) ?_
          refine pw_icmp_ne_N (b := 8) 98 dX6_isSo_74 (by decide) (by omega) (by omega) (fun c_74 => ?_) (fun c_74 => ?_)
          · obtain ⟨hO0, hO1⟩ : 2 ≤ st.length ∧ tOk c (i2 + 1) m2 (st.length - 1) 1 := by rcases hO with ⟨h, _⟩ | ⟨h, _⟩ | ⟨h, _⟩ | ⟨_, _, _, h⟩; exact absurd h (by omega); exact absurd h (by omega); exact absurd h c_74; exact h
            obtain ⟨v, u, r, rfl⟩ : ∃ v u r, st = v :: u :: r := by rcases st with _ | ⟨v, _ | ⟨u, r⟩⟩; exact absurd hO0 (by decide); exact absurd hO0 (by simp); exact ⟨_, _, _, rfl⟩
            simp only [List.length_cons] at hsl hO0 hO1 ⊢
            refine pw_iincm (j := 3) (ls' := [(3, _), (0, _), (1, _), (2, _), (4, _), (5, _)]) dX6_isSo_98 rfl (by decide) rfl ?_
            refine pw_ls [1, 2, 3, 0, 4, 5] (ls' := [(0, _), (1, _), (2, _), (3, _), (4, _), (5, _)]) rfl ?_
            refine pw_aload_n dX6_isSo_101 0 rfl rfl ?_
            refine pw_getr 33 zc_X6 (ts_this hM) (by decide) q2019 (Or.inr ⟨_, rfl⟩) (tr_stack hM) dX6_isSo_102 ?_
            refine pw_iload_n dX6_isSo_105 3 rfl rfl ?_
            refine pw_iconst (v := 1) dX6_isSo_106 (by decide) ?_
            refine pw_isub dX6_isSo_107 ?_
            rw [nI_pred]
            refine pw_iload dX6_isSo_108 5 rfl ?_
            refine pw_aload_n dX6_isSo_110 0 rfl rfl ?_
            refine pw_getr 33 zc_X6 (ts_this hM) (by decide) q2019 (Or.inr ⟨_, rfl⟩) (tr_stack hM) dX6_isSo_111 ?_
            refine pw_iload_n dX6_isSo_114 3 rfl rfl ?_
            refine pw_iconst (v := 1) dX6_isSo_115 (by decide) ?_
            refine pw_isub dX6_isSo_116 ?_
            rw [nI_pred]
            refine pw_iald r.length rfl (ts_stack hM) (by omega) (by decide) dX6_isSo_117 ?_
            rw [hS.2.1]
            refine pw_aload_n dX6_isSo_118 0 rfl rfl ?_
            refine pw_getr 33 zc_X6 (ts_this hM) (by decide) q2019 (Or.inr ⟨_, rfl⟩) (tr_stack hM) dX6_isSo_119 ?_
            refine pw_iload_n dX6_isSo_122 3 rfl rfl ?_
            refine pw_iald (r.length + 1) rfl (ts_stack hM) (by omega) (by decide) dX6_isSo_123 ?_
            rw [show zai n1 at_stack (r.length + 1) = v from hS.1]
            refine pw_callS3 zmM_X6_by rfl (lw_S q2448 q2449 q150 q2450) (t_by (c i2).1 (by omega) u v g n1) (by decide) (Nat.le_refl _) (Nat.le_refl _) rfl (Nat.le_of_ble_eq_true rfl) (Nat.le_of_ble_eq_true rfl) dX6_isSo_124 zE.nx (zE_kk ?_)
            refine pw_iast r.length rfl (ts_stack hM) (by decide) (by omega) (by decide) dX6_isSo_127 ?_
            rw [show tStep (spFc S o k age hurt held w) (c i2) (v :: u :: r) = tBy (c i2).1 u v :: r from by unfold tStep; rw [if_neg (by omega), if_neg (by omega), if_neg c_74]] at hR
            refine pw_iinc1 (j := 4) (ls' := [(4, _), (0, _), (1, _), (2, _), (3, _), (5, _)]) dX6_isSo_128 rfl (by decide) rfl ?_
            refine pw_ls [1, 2, 3, 4, 0, 5] (ls' := [(0, _), (1, _), (2, _), (3, _), (4, _), (5, _)]) rfl ?_
            refine pw_goto 5 dX6_isSo_131 (by decide) ?_
            refine pw_ls [0, 1, 2, 3, 4] (ls' := [(0, _), (1, _), (2, _), (3, _), (4, _)]) rfl ?_
            exact ih (i2 + 1) (tBy (c i2).1 u v :: r) _ (by omega) (by simp only [List.length_cons]; omega) (hf.pai rfl) (Stk.push hS.2.2) hO1 hR
          · obtain ⟨hO0, hO1⟩ : 1 ≤ st.length ∧ tOk c (i2 + 1) m2 st.length 1 := by rcases hO with ⟨h, _⟩ | ⟨h, _⟩ | ⟨_, h⟩ | ⟨h, _⟩; exact absurd h (by omega); exact absurd h (by omega); exact h; exact absurd c_74 h
            obtain ⟨v, r, rfl⟩ : ∃ v r, st = v :: r := by cases st; exact absurd hO0 (by decide); exact ⟨_, _, rfl⟩
            simp only [List.length_cons] at hsl hO0 hO1 ⊢
            refine pw_aload_n dX6_isSo_77 0 rfl rfl ?_
            refine pw_getr 33 zc_X6 (ts_this hM) (by decide) q2019 (Or.inr ⟨_, rfl⟩) (tr_stack hM) dX6_isSo_78 ?_
            refine pw_iload_n dX6_isSo_81 3 rfl rfl ?_
            refine pw_iconst (v := 1) dX6_isSo_82 (by decide) ?_
            refine pw_isub dX6_isSo_83 ?_
            rw [nI_pred]
            refine pw_iconst (v := 1) dX6_isSo_84 (by decide) ?_
            refine pw_aload_n dX6_isSo_85 0 rfl rfl ?_
            refine pw_getr 33 zc_X6 (ts_this hM) (by decide) q2019 (Or.inr ⟨_, rfl⟩) (tr_stack hM) dX6_isSo_86 ?_
            refine pw_iload_n dX6_isSo_89 3 rfl rfl ?_
            refine pw_iconst (v := 1) dX6_isSo_90 (by decide) ?_
            refine pw_isub dX6_isSo_91 ?_
            rw [nI_pred]
            refine pw_iald r.length rfl (ts_stack hM) (by omega) (by decide) dX6_isSo_92 ?_
            rw [hS.1]
            refine pw_isub dX6_isSo_93 ?_
            refine pw_iast r.length rfl (ts_stack hM) (by decide) (by omega) (by decide) dX6_isSo_94 ?_
            refine pw_goto 128 dX6_isSo_95 (by decide) ?_
            rw [show tStep (spFc S o k age hurt held w) (c i2) (v :: r) = (1 - v) :: r from by unfold tStep; rw [if_neg (by omega), if_neg (by omega), if_pos c_74]] at hR
            refine pw_iinc1 (j := 4) (ls' := [(4, _), (0, _), (1, _), (2, _), (3, _), (5, _)]) dX6_isSo_128 rfl (by decide) rfl ?_
            refine pw_ls [1, 2, 3, 4, 0, 5] (ls' := [(0, _), (1, _), (2, _), (3, _), (4, _), (5, _)]) rfl ?_
            refine pw_goto 5 dX6_isSo_131 (by decide) ?_
            refine pw_ls [0, 1, 2, 3, 4] (ls' := [(0, _), (1, _), (2, _), (3, _), (4, _)]) rfl ?_
            exact ih (i2 + 1) ((1 - v) :: r) _ (by omega) (by simp only [List.length_cons]; omega) (hf.pai rfl) (Stk.push hS.2) hO1 hR
        · refine pw_aload_n dX6_isSo_28 0 rfl rfl ?_
          refine pw_getr 33 zc_X6 (ts_this hM) (by decide) q2019 (Or.inr ⟨_, rfl⟩) (tr_stack hM) dX6_isSo_29 ?_
          refine pw_iload_n dX6_isSo_32 3 rfl rfl ?_
          refine pw_iload dX6_isSo_33 5 rfl ?_
          refine pw_if_ne_N 50 dX6_isSo_35 (by decide) (by omega) (fun c_35 => ?_) (fun c_35 => ?_)
          · refine pw_aload_n dX6_isSo_50 0 rfl rfl ?_
            refine pw_aload_n dX6_isSo_51 0 rfl rfl ?_
            refine pw_getr 31 zc_X6 (ts_this hM) (by decide) q2017 (Or.inr ⟨_, rfl⟩) (tr_code hM) dX6_isSo_52 ?_
            refine pw_iload dX6_isSo_55 4 rfl ?_
            refine pw_aald i2 rfl (ts_code hM) rfl (Or.inr ⟨_, rfl⟩) (tw_code hM i2 (by omega)) (by omega) (by decide) dX6_isSo_57 ?_
            refine pw_iconst (v := 1) dX6_isSo_58 (by decide) ?_
            refine pw_iald 1 rfl (tv_code hM i2 (by omega)) (by decide) (by decide) dX6_isSo_59 ?_
            rw [q1]
            have e1 : (c i2).1 = 1 := by omega
            obtain ⟨⟨j, hj, hj2⟩, hO1⟩ : (∃ k, k < 10 ∧ (c i2).2 = nI k) ∧ tOk c (i2 + 1) m2 (st.length + 1) 1 := by rcases hO with ⟨h, _⟩ | ⟨_, h, h2⟩ | ⟨h, _⟩ | ⟨_, h, _⟩; exact absurd h (by omega); exact ⟨h, h2⟩; exact absurd h (by omega); exact absurd h (by omega)
            rw [hj2]
            refine pw_callV1 zmM_X6_valueOf rfl (lw_V q2444 q2446 qs105 q150 q2447) rfl (ts_this hM) zc_X6 (t_valueOf hM hT1 hW ho hk hw hm1 j hj) (by decide) (Nat.le_refl _) (Nat.le_refl _) rfl (Nat.le_of_ble_eq_true rfl) (Nat.le_of_ble_eq_true rfl) dX6_isSo_60 zE.nx (zE_kk ?_)
            refine pw_iast st.length rfl (ts_stack hM) (by decide) (by omega) (by decide) dX6_isSo_63 ?_
            refine pw_iinc1 (j := 3) (ls' := [(3, _), (0, _), (1, _), (2, _), (4, _), (5, _)]) dX6_isSo_64 rfl (by decide) rfl ?_
            refine pw_ls [1, 2, 3, 0, 4, 5] (ls' := [(0, _), (1, _), (2, _), (3, _), (4, _), (5, _)]) rfl ?_
            refine pw_goto 128 dX6_isSo_67 (by decide) ?_
            rw [show tStep (spFc S o k age hurt held w) (c i2) st = spFc S o k age hurt held w j :: st from by unfold tStep; rw [if_neg (by omega), if_pos e1, hj2, nI_clamp (by omega)]] at hR
            refine pw_iinc1 (j := 4) (ls' := [(4, _), (0, _), (1, _), (2, _), (3, _), (5, _)]) dX6_isSo_128 rfl (by decide) rfl ?_
            refine pw_ls [1, 2, 3, 4, 0, 5] (ls' := [(0, _), (1, _), (2, _), (3, _), (4, _), (5, _)]) rfl ?_
            refine pw_goto 5 dX6_isSo_131 (by decide) ?_
            refine pw_ls [0, 1, 2, 3, 4] (ls' := [(0, _), (1, _), (2, _), (3, _), (4, _)]) rfl ?_
            exact ih (i2 + 1) (spFc S o k age hurt held w j :: st) _ (by omega) (by simp only [List.length_cons]; omega) (hf.pai rfl) hS.push hO1 hR
          · refine pw_aload_n dX6_isSo_38 0 rfl rfl ?_
            refine pw_getr 31 zc_X6 (ts_this hM) (by decide) q2017 (Or.inr ⟨_, rfl⟩) (tr_code hM) dX6_isSo_39 ?_
            refine pw_iload dX6_isSo_42 4 rfl ?_
            refine pw_aald i2 rfl (ts_code hM) rfl (Or.inr ⟨_, rfl⟩) (tw_code hM i2 (by omega)) (by omega) (by decide) dX6_isSo_44 ?_
            refine pw_iconst (v := 1) dX6_isSo_45 (by decide) ?_
            refine pw_iald 1 rfl (tv_code hM i2 (by omega)) (by decide) (by decide) dX6_isSo_46 ?_
            rw [q1]
            refine pw_goto 63 dX6_isSo_47 (by decide) ?_
            refine pw_iast st.length rfl (ts_stack hM) (by decide) (by omega) (by decide) dX6_isSo_63 ?_
            refine pw_iinc1 (j := 3) (ls' := [(3, _), (0, _), (1, _), (2, _), (4, _), (5, _)]) dX6_isSo_64 rfl (by decide) rfl ?_
            refine pw_ls [1, 2, 3, 0, 4, 5] (ls' := [(0, _), (1, _), (2, _), (3, _), (4, _), (5, _)]) rfl ?_
            refine pw_goto 128 dX6_isSo_67 (by decide) ?_
            have hO1 : tOk c (i2 + 1) m2 (st.length + 1) 1 := by rcases hO with ⟨_, h⟩ | ⟨h, _⟩ | ⟨h, _⟩ | ⟨_, h, _⟩; exact h; exact absurd h (by omega); exact absurd h (by omega); exact absurd h (by omega)
            rw [show tStep (spFc S o k age hurt held w) (c i2) st = (c i2).2 :: st from if_pos c_35] at hR
            refine pw_iinc1 (j := 4) (ls' := [(4, _), (0, _), (1, _), (2, _), (3, _), (5, _)]) dX6_isSo_128 rfl (by decide) rfl ?_
            refine pw_ls [1, 2, 3, 4, 0, 5] (ls' := [(0, _), (1, _), (2, _), (3, _), (4, _), (5, _)]) rfl ?_
            refine pw_goto 5 dX6_isSo_131 (by decide) ?_
            refine pw_ls [0, 1, 2, 3, 4] (ls' := [(0, _), (1, _), (2, _), (3, _), (4, _)]) rfl ?_
            exact ih (i2 + 1) ((c i2).2 :: st) _ (by omega) (by simp only [List.length_cons]; omega) (hf.pai rfl) hS.push hO1 hR
  refine pw_iconst (v := 0) dX6_isSo_0 (by decide) ?_
  refine pw_istore_n (ls' := [(3, _), (0, _), (1, _), (2, _)]) dX6_isSo_1 rfl (by decide) rfl ?_
  refine pw_ls [1, 2, 3, 0] (ls' := [(0, _), (1, _), (2, _), (3, _)]) rfl ?_
  refine pw_iload_n dX6_isSo_2 1 rfl rfl ?_
  refine pw_istore (ls' := [(4, _), (0, _), (1, _), (2, _), (3, _)]) dX6_isSo_3 (by decide) rfl ?_
  refine pw_ls [1, 2, 3, 4, 0] (ls' := [(0, _), (1, _), (2, _), (3, _), (4, _)]) rfl ?_
  exact hl m i [] n rfl (Nat.zero_le _) zFr.rf trivial hg.1 (hg.2 _)
/-- who falls by a tongue's grounds -/
def spTo (fc : Nat → Int32) : List (Nat × zG) → Nat
  | [] => 0
  | q :: r => if q.2 fc = true then q.1 else spTo fc r
theorem t_byTongue {g : zg_G} {n : zg_N} {S : zS} (hM : TSh g) (hT : TW n S) (hW : WF S) {o k w : Nat} (age hurt held : Int32) (ho : okb S o) (hk : okb S k) (hw : w < 52) : PW zm_X6_byTongue 4 (fun q g1 n1 => q = .inl (some (.int (nI (spTo (spFc S o k age hurt held w) (sT S))))) ∧ g1 = g ∧ zFr zB0 zBm n n1) 0 0 0 [(0, .ref aT), (1, .int (nI o)), (2, .int (nI k)), (3, .int age), (4, .int hurt), (5, .int held), (6, .int (nI w))] [] g n := by
  have hwl := hW.tl
  have hl : ∀ (T : List (Nat × zG)) (i : Nat) (n1 : zg_N), i + T.length = (sT S).length → (∀ j q, T[j]? = some q → (sT S)[i + j]? = some q) → zFr zB0 zBm n n1 → TMt n1 o k age hurt held w → spTo (spFc S o k age hurt held w) T = spTo (spFc S o k age hurt held w) (sT S) →
      PW zm_X6_byTongue 4 (fun q g1 n1 => q = .inl (some (.int (nI (spTo (spFc S o k age hurt held w) (sT S))))) ∧ g1 = g ∧ zFr zB0 zBm n n1) 0 0 48 [(0, .ref aT), (1, .int (nI o)), (2, .int (nI k)), (3, .int age), (4, .int hurt), (5, .int held), (6, .int (nI w)), (7, .int (nI i))] [] g n1 := by
    intro T
    induction T with
    | nil =>
      intro i n1 hi hT2 hf hm hR
      have hT1 := hT.keep hW (hf.mono (fun _ _ h => h.elim) zBm_tA)
      simp only [List.length_nil] at hi
      refine pw_iload dX6_byTongue_48 7 rfl ?_
      refine pw_aload_n dX6_byTongue_50 0 rfl rfl ?_
      refine pw_geti 25 zc_X6 (ts_this hM) (by decide) q2011 (Or.inl rfl) dX6_byTongue_51 ?_
      rw [hT1.tg.1]
      refine pw_icmp_ge_N 98 dX6_byTongue_54 (by decide) (by omega) (by omega) (fun c_54 => ?_) (fun c_54 => ?_)
      · refine pw_iconst (v := 0) dX6_byTongue_98 (by decide) ?_
        refine pw_iret rfl dX6_byTongue_99 ?_
        exact ⟨by rw [← hR]; rfl, rfl, hf⟩
      · exact absurd c_54 (by omega)
    | cons q T ih =>
      intro i n1 hi hT2 hf hm hR
      have hT1 := hT.keep hW (hf.mono (fun _ _ h => h.elim) zBm_tA)
      simp only [List.length_cons] at hi
      obtain ⟨hwn, c, N, hN, hc, hq⟩ := hT1.tg
      obtain ⟨i1, m1, a1, a2, a3, a4, a5⟩ := hq i q (hT2 0 q rfl)
      refine pw_iload dX6_byTongue_48 7 rfl ?_
      refine pw_aload_n dX6_byTongue_50 0 rfl rfl ?_
      refine pw_geti 25 zc_X6 (ts_this hM) (by decide) q2011 (Or.inl rfl) dX6_byTongue_51 ?_
      rw [hwn]
      refine pw_icmp_ge_N 98 dX6_byTongue_54 (by decide) (by omega) (by omega) (fun c_54 => ?_) (fun c_54 => ?_)
      · exact absurd c_54 (by omega)
      · refine pw_aload_n dX6_byTongue_57 0 rfl rfl ?_
        refine pw_aload_n dX6_byTongue_58 0 rfl rfl ?_
        refine pw_getr 29 zc_X6 (ts_this hM) (by decide) q2015 (Or.inr ⟨_, rfl⟩) (tr_who hM) dX6_byTongue_59 ?_
        refine pw_iload dX6_byTongue_62 7 rfl ?_
        refine pw_aald i rfl (ts_who hM) rfl (Or.inr ⟨_, rfl⟩) (tw_who hM i (by omega)) (by omega) (by decide) dX6_byTongue_64 ?_
        refine pw_iconst (v := 1) dX6_byTongue_65 (by decide) ?_
        refine pw_iald 1 rfl (tv_who hM i (by omega)) (by decide) (by decide) dX6_byTongue_66 ?_
        rw [a3]
        refine pw_aload_n dX6_byTongue_67 0 rfl rfl ?_
        refine pw_getr 29 zc_X6 (ts_this hM) (by decide) q2015 (Or.inr ⟨_, rfl⟩) (tr_who hM) dX6_byTongue_68 ?_
        refine pw_iload dX6_byTongue_71 7 rfl ?_
        refine pw_aald i rfl (ts_who hM) rfl (Or.inr ⟨_, rfl⟩) (tw_who hM i (by omega)) (by omega) (by decide) dX6_byTongue_73 ?_
        refine pw_iconst (v := 2) dX6_byTongue_74 (by decide) ?_
        refine pw_iald 2 rfl (tv_who hM i (by omega)) (by decide) (by decide) dX6_byTongue_75 ?_
        rw [a4]
        refine pw_callV2 zmM_X6_isSo rfl (lw_V q2440 q2442 qs104 q150 q2443) rfl (ts_this hM) zc_X6 (t_isSo hM hT1 hW ho hk hw hm hN hc a1 a5) (by decide) (Nat.le_refl _) (Nat.le_refl _) rfl (Nat.le_of_ble_eq_true rfl) (Nat.le_of_ble_eq_true rfl) dX6_byTongue_76 (by intros; rintro ⟨h, _⟩; cases h) (fun v1 g1 n2 hh => ?_)
        obtain ⟨h1, rfl, hf2⟩ := hh
        cases h1
        refine pw_if_eq_B 92 dX6_byTongue_79 (by decide) (fun c_79 => ?_) (fun c_79 => ?_)
        · refine pw_iinc1 (j := 7) (ls' := [(7, _), (0, _), (1, _), (2, _), (3, _), (4, _), (5, _), (6, _)]) dX6_byTongue_92 rfl (by decide) rfl ?_
          refine pw_ls [1, 2, 3, 4, 5, 6, 7, 0] (ls' := [(0, _), (1, _), (2, _), (3, _), (4, _), (5, _), (6, _), (7, _)]) rfl ?_
          refine pw_goto 48 dX6_byTongue_95 (by decide) ?_
          exact ih (i + 1) n2 (by omega) (fun j p hp => by rw [show i + 1 + j = i + (j + 1) by omega]; exact hT2 (j + 1) p hp) (hf.tr (hf2.mono (fun _ _ h => h) (fun _ h => Or.inl h))) (hm.keep hf2) (by rw [← hR, spTo, if_neg c_79])
        · refine pw_aload_n dX6_byTongue_82 0 rfl rfl ?_
          refine pw_getr 29 zc_X6 (ts_this hM) (by decide) q2015 (Or.inr ⟨_, rfl⟩) (tr_who hM) dX6_byTongue_83 ?_
          refine pw_iload dX6_byTongue_86 7 rfl ?_
          refine pw_aald i rfl (ts_who hM) rfl (Or.inr ⟨_, rfl⟩) (tw_who hM i (by omega)) (by omega) (by decide) dX6_byTongue_88 ?_
          refine pw_iconst (v := 0) dX6_byTongue_89 (by decide) ?_
          refine pw_iald 0 rfl (tv_who hM i (by omega)) (by decide) (by decide) dX6_byTongue_90 ?_
          rw [show zai n2 (at_who + 1 + i) 0 = nI q.1 from ((hf2.2 (at_who + 1 + i) (by show ¬ 1062 + 1 + i = 1526; omega) 0).1).trans a2]
          refine pw_iret rfl dX6_byTongue_91 ?_
          exact ⟨by rw [← hR, spTo, if_pos c_79], rfl, hf.tr (hf2.mono (fun _ _ h => h) (fun _ h => Or.inl h))⟩
  refine pw_aload_n dX6_byTongue_0 0 rfl rfl ?_
  refine pw_getr 49 zc_X6 (ts_this hM) (by decide) q2035 (Or.inr ⟨_, rfl⟩) (tr_meets hM) dX6_byTongue_1 ?_
  refine pw_iconst (v := 0) dX6_byTongue_4 (by decide) ?_
  refine pw_iload_n dX6_byTongue_5 1 rfl rfl ?_
  refine pw_iast 0 rfl (ts_meets hM) (by decide) (by decide) (by decide) dX6_byTongue_6 ?_
  refine pw_aload_n dX6_byTongue_7 0 rfl rfl ?_
  refine pw_getr 49 zc_X6 (ts_this hM) (by decide) q2035 (Or.inr ⟨_, rfl⟩) (tr_meets hM) dX6_byTongue_8 ?_
  refine pw_iconst (v := 1) dX6_byTongue_11 (by decide) ?_
  refine pw_iload_n dX6_byTongue_12 2 rfl rfl ?_
  refine pw_iast 1 rfl (ts_meets hM) (by decide) (by decide) (by decide) dX6_byTongue_13 ?_
  refine pw_aload_n dX6_byTongue_14 0 rfl rfl ?_
  refine pw_getr 49 zc_X6 (ts_this hM) (by decide) q2035 (Or.inr ⟨_, rfl⟩) (tr_meets hM) dX6_byTongue_15 ?_
  refine pw_iconst (v := 2) dX6_byTongue_18 (by decide) ?_
  refine pw_iload_n dX6_byTongue_19 3 rfl rfl ?_
  refine pw_iast 2 rfl (ts_meets hM) (by decide) (by decide) (by decide) dX6_byTongue_20 ?_
  refine pw_aload_n dX6_byTongue_21 0 rfl rfl ?_
  refine pw_getr 49 zc_X6 (ts_this hM) (by decide) q2035 (Or.inr ⟨_, rfl⟩) (tr_meets hM) dX6_byTongue_22 ?_
  refine pw_iconst (v := 3) dX6_byTongue_25 (by decide) ?_
  refine pw_iload dX6_byTongue_26 4 rfl ?_
  refine pw_iast 3 rfl (ts_meets hM) (by decide) (by decide) (by decide) dX6_byTongue_28 ?_
  refine pw_aload_n dX6_byTongue_29 0 rfl rfl ?_
  refine pw_getr 49 zc_X6 (ts_this hM) (by decide) q2035 (Or.inr ⟨_, rfl⟩) (tr_meets hM) dX6_byTongue_30 ?_
  refine pw_iconst (v := 4) dX6_byTongue_33 (by decide) ?_
  refine pw_iload dX6_byTongue_34 5 rfl ?_
  refine pw_iast 4 rfl (ts_meets hM) (by decide) (by decide) (by decide) dX6_byTongue_36 ?_
  refine pw_aload_n dX6_byTongue_37 0 rfl rfl ?_
  refine pw_getr 49 zc_X6 (ts_this hM) (by decide) q2035 (Or.inr ⟨_, rfl⟩) (tr_meets hM) dX6_byTongue_38 ?_
  refine pw_iconst (v := 5) dX6_byTongue_41 (by decide) ?_
  refine pw_iload dX6_byTongue_42 6 rfl ?_
  refine pw_iast 5 rfl (ts_meets hM) (by decide) (by decide) (by decide) dX6_byTongue_44 ?_
  refine pw_iconst (v := 0) dX6_byTongue_45 (by decide) ?_
  refine pw_istore (ls' := [(7, _), (0, _), (1, _), (2, _), (3, _), (4, _), (5, _), (6, _)]) dX6_byTongue_46 (by decide) rfl ?_
  refine pw_ls [1, 2, 3, 4, 5, 6, 7, 0] (ls' := [(0, _), (1, _), (2, _), (3, _), (4, _), (5, _), (6, _), (7, _)]) rfl ?_
  refine hl (sT S) 0 _ (Nat.zero_add _) (fun j q h => by rw [Nat.zero_add]; exact h) ?_ ?_ rfl
  · exact (((((zFr.rf.pai (Or.inr rfl)).pai (Or.inr rfl)).pai (Or.inr rfl)).pai (Or.inr rfl)).pai (Or.inr rfl)).pai (Or.inr rfl)
  · exact ⟨rfl, rfl, rfl, rfl, rfl, rfl⟩

/-! ===== a year: what it does ===== -/
abbrev zYa : Type := Nat → Nat → Int32
abbrev zYr : Type := List Nat × zYa
def yDrop (A : zYa) (k b w : Nat) : zYa := zu2 (zu2 (zu2 A 1 k (nI w)) 2 k (nI b)) 5 0 (A 5 0 + 1)
def yKill (A : zYa) (k w : Nat) : zYa := zu2 (zu2 A 1 k (nI w)) 5 1 (A 5 1 + 1)
/-- those that are dead go -/
def yKl (S : zS) (w : Nat) : List Nat → List Nat → zYa → zYr
  | pre, [], A => (pre, A)
  | pre, k :: r, A => if spDead S k w then yKl S w pre r (yKill A k w) else yKl S w (pre ++ [k]) r A
def yWho (S : zS) (law : Nat) (A : zYa) (many o k w : Nat) : Nat :=
  if law = 0 then 0 else if law = 1 then 1 else if law = 2 then 2 else if law = 3 then (if lc (sL S 0 o) < lc (sL S 0 k) then 2 else 1) else spTo (spFc S o k (A 3 o) (A 4 o) (nI many) w) (sT S)
/-- a new one meets those held -/
def yMt (S : zS) (law w k : Nat) : List Nat → List Nat → zYa → zYr
  | pre, [], A => (if A 1 k = -1 then pre ++ [k] else pre, A)
  | pre, o :: r, A =>
    if ¬ A 1 k = -1 then (pre ++ o :: r, A)
    else if ¬ spFalls S o k w then yMt S law w k (pre ++ [o]) r A
    else if yWho S law A (pre ++ o :: r).length o k w = 2 then yMt S law w k pre r (yDrop A o k w)
    else if yWho S law A (pre ++ o :: r).length o k w = 1 then (pre ++ o :: r, yDrop A k o w)
    else (pre ++ r, yDrop (yDrop A k o w) o k w)
def yMeet (S : zS) (law w k : Nat) (y : zYr) : zYr := if spDead S k w then (y.1, yKill (zu2 y.2 0 k (nI w)) k w) else yMt S law w k [] y.1 (zu2 y.2 0 k (nI w))
def yHurt (A : zYa) (k : Nat) : zYa := zu2 (zu2 A 4 k (A 4 k + 1)) 5 2 (A 5 2 + 1)
def yAg1 (S : zS) (A : zYa) (k : Nat) : zYa := if spTrue S k then zu2 A 3 k (A 3 k + 1) else yHurt (zu2 A 3 k (A 3 k + 1)) k
def yAg (S : zS) : List Nat → zYa → zYa
  | [], A => A
  | k :: r, A => yAg S r (yAg1 S A k)
def yBitsF (B : Int32) : List Nat → Int32
  | [] => B
  | k :: r => yBitsF (B ||| nI (2 ^ k)) r
abbrev yBits (L : List Nat) : Int32 := yBitsF 0 L
def yMon (S : zS) (law w : Nat) (d : Option Nat) (y : zYr) : zYr := match d with
  | none => yKl S w [] y.1 y.2
  | some k => yMeet S law w k (yKl S w [] y.1 y.2)
def yWeek (S : zS) (law w : Nat) (d : Option Nat) (y : zYr) : zYr := ((yMon S law w d y).1, yAg S (yMon S law w d y).1 (yMon S law w d y).2)
def yA0 : zYa := fun a _ => if a < 3 then -1 else 0
def yRun (S : zS) (law : Nat) (d : Nat → Option Nat) : Nat → zYr
  | 0 => ([], yA0)
  | w + 1 => yWeek S law w (d w) (yRun S law d w)
/-- all held are beliefs, and not too many -/
def yOk (S : zS) (L : List Nat) : Prop := ∀ b, b ∈ L → okb S b
theorem yKl_ok {S : zS} {w : Nat} : ∀ (r pre : List Nat) (A : zYa), yOk S pre → yOk S r → yOk S (yKl S w pre r A).1 ∧ (yKl S w pre r A).1.length ≤ pre.length + r.length
  | [], pre, A, hp, _ => ⟨hp, Nat.le_refl _⟩
  | k :: r, pre, A, hp, hr => by
    rw [yKl]
    split
    · have := yKl_ok (w := w) r pre (yKill A k w) hp (fun b hb => hr b (List.mem_cons_of_mem _ hb))
      exact ⟨this.1, by simp only [List.length_cons]; omega⟩
    · have := yKl_ok (w := w) r (pre ++ [k]) A (fun b hb => by
        rcases List.mem_append.mp hb with h | h
        · exact hp b h
        · rw [List.mem_singleton.mp h]; exact hr k List.mem_cons_self) (fun b hb => hr b (List.mem_cons_of_mem _ hb))
      exact ⟨this.1, by simp only [List.length_cons, List.length_append, List.length_nil] at this ⊢; omega⟩
theorem yMt_ok {S : zS} {law w k : Nat} (hk : okb S k) : ∀ (r pre : List Nat) (A : zYa), yOk S pre → yOk S r → yOk S (yMt S law w k pre r A).1 ∧ (yMt S law w k pre r A).1.length ≤ pre.length + r.length + 1
  | [], pre, A, hp, _ => by
    rw [yMt]
    show yOk S (if A 1 k = -1 then pre ++ [k] else pre) ∧ (if A 1 k = -1 then pre ++ [k] else pre).length ≤ _
    split
    · refine ⟨fun b hb => ?_, by simp only [List.length_append, List.length_cons, List.length_nil]; omega⟩
      rcases List.mem_append.mp hb with h | h
      · exact hp b h
      · rw [List.mem_singleton.mp h]; exact hk
    · exact ⟨hp, by omega⟩
  | o :: r, pre, A, hp, hr => by
    have ho := hr o List.mem_cons_self
    have hr2 : yOk S r := fun b hb => hr b (List.mem_cons_of_mem _ hb)
    have hall : yOk S (pre ++ o :: r) := fun b hb => (List.mem_append.mp hb).elim (hp b) (hr b)
    rw [yMt]
    split
    · exact ⟨hall, by simp only [List.length_append, List.length_cons]; omega⟩
    · split
      · have := yMt_ok (law := law) (w := w) hk r (pre ++ [o]) A (fun b hb => by
          rcases List.mem_append.mp hb with h | h
          · exact hp b h
          · rw [List.mem_singleton.mp h]; exact ho) hr2
        exact ⟨this.1, by simp only [List.length_cons, List.length_append, List.length_nil] at this ⊢; omega⟩
      · split
        · have := yMt_ok (law := law) (w := w) hk r pre (yDrop A o k w) hp hr2
          exact ⟨this.1, by simp only [List.length_cons] at this ⊢; omega⟩
        · split
          · exact ⟨hall, by simp only [List.length_append, List.length_cons]; omega⟩
          · exact ⟨fun b hb => (List.mem_append.mp hb).elim (hp b) (hr2 b), by simp only [List.length_append, List.length_cons]; omega⟩
theorem yMon_ok {S : zS} {law w : Nat} {d : Option Nat} (hd : ∀ k, d = some k → okb S k) {y : zYr} (hy : yOk S y.1) : yOk S (yMon S law w d y).1 ∧ (yMon S law w d y).1.length ≤ y.1.length + (if d = none then 0 else 1) := by
  have h1 := yKl_ok (w := w) y.1 [] y.2 (fun b hb => nomatch hb) hy
  simp only [List.length_nil, Nat.zero_add] at h1
  cases d with
  | none => exact ⟨h1.1, by rw [if_pos rfl]; exact h1.2⟩
  | some k =>
    show yOk S (yMeet S law w k _).1 ∧ (yMeet S law w k _).1.length ≤ _
    rw [if_neg (by simp)]
    unfold yMeet
    split
    · exact ⟨h1.1, by show (yKl S w [] y.1 y.2).1.length ≤ _; omega⟩
    · have := yMt_ok (law := law) (w := w) (hd k rfl) (yKl S w [] y.1 y.2).1 [] (zu2 (yKl S w [] y.1 y.2).2 0 k (nI w)) (fun b hb => nomatch hb) h1.1
      exact ⟨this.1, by simp only [List.length_nil] at this; omega⟩
theorem yRun_ok {S : zS} {law : Nat} {d : Nat → Option Nat} (hd : ∀ w k, d w = some k → okb S k ∧ w < 17) : ∀ w, yOk S (yRun S law d w).1 ∧ (yRun S law d w).1.length ≤ w ∧ (yRun S law d w).1.length ≤ 17
  | 0 => ⟨(fun b hb => nomatch hb), Nat.zero_le _, Nat.zero_le _⟩
  | w + 1 => by
    have ih := yRun_ok (law := law) hd w
    have := yMon_ok (law := law) (w := w) (d := d w) (fun k hk => (hd w k hk).1) ih.1
    have e : (yRun S law d (w + 1)).1 = (yMon S law w (d w) (yRun S law d w)).1 := rfl
    rw [e]
    cases hdw : d w with
    | none =>
      rw [hdw] at this
      rw [if_pos rfl] at this
      exact ⟨this.1, by omega, by omega⟩
    | some k =>
      have h17 := (hd w k hdw).2
      rw [hdw] at this
      rw [if_neg (by simp)] at this
      exact ⟨this.1, by omega, by omega⟩
theorem spTo_le {S : zS} (hW : WF S) (fc : Nat → Int32) : spTo fc (sT S) ≤ 2 := by
  have h : ∀ T : List (Nat × zG), (∀ q ∈ T, q.1 ≤ 2) → spTo fc T ≤ 2 := by
    intro T
    induction T with
    | nil => intro _; exact Nat.zero_le _
    | cons q r ih =>
      intro hq
      rw [spTo]
      split
      · exact hq q List.mem_cons_self
      · exact ih (fun p hp => hq p (List.mem_cons_of_mem _ hp))
  exact h _ (fun q hq => hW.who hq)
theorem yWho_le {S : zS} (hW : WF S) (law : Nat) (A : zYa) (many o k w : Nat) : yWho S law A many o k w ≤ 2 := by
  unfold yWho
  split
  · omega
  · split
    · omega
    · split
      · omega
      · split
        · split <;> omega
        · exact spTo_le hW _

