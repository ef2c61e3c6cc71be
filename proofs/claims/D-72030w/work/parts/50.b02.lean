/-! BLOCKS' FACTS 2 (by gen/bok.py) -/
set_option maxRecDepth 100000
theorem bf_X6_waits_0 : BOKt mt tX6_waits 141 0 b_X6_waits_0 := by
  refine bplain (pc' := 1) rfl dX6_waits_0 rfl (ihN rfl) rfl ?_
  refine bplain (pc' := 2) rfl dX6_waits_1 rfl (ihN rfl) rfl ?_
  refine bobj (pc' := 5) rfl dX6_waits_2 rfl (⟨lkf0 q1701 lf_316, lkp0 lp_317⟩) (ihN rfl) rfl ?_
  refine bplain (pc' := 6) rfl dX6_waits_5 rfl (ihN rfl) rfl ?_
  refine bplain (pc' := 7) rfl dX6_waits_6 rfl (ihN rfl) rfl ?_
  refine bobj (pc' := 10) rfl dX6_waits_7 rfl (⟨lkf0 q1703 lf_353, lkp0 lp_354⟩) (ihN rfl) rfl ?_
  refine bplain (pc' := 11) rfl dX6_waits_10 rfl (ihN rfl) rfl ?_
  refine bplain (pc' := 12) rfl dX6_waits_11 rfl (ihN rfl) rfl ?_
  refine bplain (pc' := 13) rfl dX6_waits_12 rfl (ihN rfl) rfl ?_
  refine bcall (pc' := 18) rfl dX6_waits_13 rfl (trivial) (⟨37, rfl, ⟨⟨by decide, by decide⟩, rfl, rfl, rfl⟩, (fun h => nomatch h), rfl, rfl, capl_of (by rfl)⟩) (ihN rfl) rfl ?_
  refine bobj (pc' := 21) rfl dX6_waits_18 rfl (⟨lkf0 q1707 lf_320, lkp0 lp_321⟩) (ihN rfl) rfl ?_
  refine bret (pc' := 22) rfl dX6_waits_21 rfl (rfl) (ihN rfl) rfl ?_
  exact trivial
theorem tf_X6_waits : ∀ x ∈ tb_X6_waits, BOK mt 141 x.1 x.2 := tb_c mt_X6_waits bf_X6_waits_0 (tb_n)
theorem bf_X0_guard_0 : BOKt mt tX0_guard 142 0 b_X0_guard_0 := by
  refine bplain (pc' := 1) rfl dX0_guard_0 rfl (ihN rfl) rfl ?_
  refine bplain (pc' := 2) rfl dX0_guard_1 rfl (ihN rfl) rfl ?_
  refine bcall (pc' := 5) rfl dX0_guard_2 rfl (trivial) (lcv (n := 1) rfl (pvc (lfv mt_X0_isStatement ⟨by decide, by decide⟩ mok_X0_isStatement ⟨by decide, by decide⟩ ⟨q1773, ln_222, Or.inl ⟨q1771, Or.inl qs16⟩⟩) (trivial)) (Or.inl (by decide))) (ihN rfl) rfl ?_
  refine bjmp (tg := 33) (pc' := 8) rfl (by decide) (by decide) rfl dX0_guard_5 rfl (ihN rfl) rfl ?_
  refine bplain (pc' := 9) rfl dX0_guard_8 rfl (ihN rfl) rfl ?_
  refine bplain (pc' := 10) rfl dX0_guard_9 rfl (ihN rfl) rfl ?_
  refine bplain (pc' := 11) rfl dX0_guard_10 rfl (ihN rfl) rfl ?_
  refine bobj (pc' := 14) rfl dX0_guard_11 rfl (lkq0 lc_352 q1797) (ihN rfl) rfl ?_
  refine bcall (pc' := 17) rfl dX0_guard_14 rfl (trivial) (lcs (l := q1214) mt_X0_in ⟨by decide, by decide⟩ mok_X0_in rfl ln_210 (Or.inl q1213)) (ihN rfl) rfl ?_
  refine bjmp (tg := 33) (pc' := 20) rfl (by decide) (by decide) rfl dX0_guard_17 rfl (ihN rfl) rfl ?_
  refine bplain (pc' := 21) rfl dX0_guard_20 rfl (ihN rfl) rfl ?_
  refine bplain (pc' := 22) rfl dX0_guard_21 rfl (ihN rfl) rfl ?_
  refine bplain (pc' := 23) rfl dX0_guard_22 rfl (ihN rfl) rfl ?_
  refine bplain (pc' := 24) rfl dX0_guard_23 rfl (ihN rfl) rfl ?_
  refine bplain (pc' := 25) rfl dX0_guard_24 rfl (ihN rfl) rfl ?_
  refine bplain (pc' := 26) rfl dX0_guard_25 rfl (ihN rfl) rfl ?_
  refine bplain (pc' := 27) rfl dX0_guard_26 rfl (ihN rfl) rfl ?_
  refine bcall (pc' := 30) rfl dX0_guard_27 rfl (trivial) (lcs (l := q1214) mt_X0_in ⟨by decide, by decide⟩ mok_X0_in rfl ln_210 (Or.inl q1213)) (ihN rfl) rfl ?_
  refine bjmp (tg := 36) (pc' := 33) rfl (by decide) (by decide) rfl dX0_guard_30 rfl (ihN rfl) rfl ?_
  exact bnop0 rfl (by decide)
theorem bf_X0_guard_33 : BOKt mt tX0_guard 142 33 b_X0_guard_33 := by
  refine bnop1 ?_
  refine bplain (pc' := 35) rfl dX0_guard_33 rfl (ihN rfl) rfl ?_
  refine bret (pc' := 36) rfl dX0_guard_35 rfl (Or.inl ⟨rfl, rfl⟩) (ihN rfl) rfl ?_
  exact trivial
theorem bf_X0_guard_36 : BOKt mt tX0_guard 142 36 b_X0_guard_36 := by
  refine bplain (pc' := 37) rfl dX0_guard_36 rfl (ihN rfl) rfl ?_
  refine bthr (pc' := 40) rfl dX0_guard_37 rfl (lkf0 q1115 lf_116) (trivial) (ihN rfl) rfl ?_
  refine bplain (pc' := 41) rfl dX0_guard_40 rfl (ihN rfl) rfl ?_
  refine bcall (pc' := 44) rfl dX0_guard_41 rfl (trivial) (lcv (n := 1) rfl (pvc (lfv mt_J20_get ⟨by decide, by decide⟩ mok_J20_get ⟨by decide, by decide⟩ ⟨q1777, ln_338, Or.inl ⟨q1776, Or.inl q1778⟩⟩) (trivial)) (Or.inl (by decide))) (ihN rfl) rfl ?_
  refine bthr (pc' := 47) rfl dX0_guard_44 rfl (lkc (nm := "StrideTurns$Statement") q1651 lg_340 lb_341) (Or.inl rfl) (ihN rfl) rfl ?_
  refine bplain (pc' := 49) rfl dX0_guard_47 rfl (ihN rfl) rfl ?_
  refine bplain (pc' := 51) rfl dX0_guard_49 rfl (ihN rfl) rfl ?_
  refine bthr (pc' := 54) rfl dX0_guard_51 rfl (lkf1 (host := "StrideTurns") (by decide) q1702 lf_316) (trivial) (ihN rfl) rfl ?_
  refine bplain (pc' := 56) rfl dX0_guard_54 rfl (ihN rfl) rfl ?_
  refine bplain (pc' := 58) rfl dX0_guard_56 rfl (ihN rfl) rfl ?_
  refine bthr (pc' := 61) rfl dX0_guard_58 rfl (lkf1 (host := "StrideTurns") (by decide) q1704 lf_353) (trivial) (ihN rfl) rfl ?_
  refine bplain (pc' := 63) rfl dX0_guard_61 rfl (ihN rfl) rfl ?_
  refine bplain (pc' := 65) rfl dX0_guard_63 rfl (ihN rfl) rfl ?_
  refine bplain (pc' := 66) rfl dX0_guard_65 rfl (ihN rfl) rfl ?_
  refine bplain (pc' := 67) rfl dX0_guard_66 rfl (ihN rfl) rfl ?_
  refine bcall (pc' := 70) rfl dX0_guard_67 rfl (trivial) (lcv (n := 2) rfl (pvc (lfv mt_X6_waits ⟨by decide, by decide⟩ mok_X6_waits ⟨by decide, by decide⟩ ⟨q1811, ln_224, Or.inl ⟨q1810, Or.inl q1812⟩⟩) (trivial)) (Or.inl (by decide))) (ihN rfl) rfl ?_
  refine bplain (pc' := 71) rfl dX0_guard_70 rfl (ihN rfl) rfl ?_
  refine bplain (pc' := 73) rfl dX0_guard_71 rfl (ihN rfl) rfl ?_
  refine bplain (pc' := 75) rfl dX0_guard_73 rfl (ihN rfl) rfl ?_
  refine bplain (pc' := 77) rfl dX0_guard_75 rfl (ihN rfl) rfl ?_
  refine bcall (pc' := 82) rfl dX0_guard_77 rfl (trivial) (⟨38, rfl, ⟨⟨by decide, by decide⟩, rfl, rfl, rfl⟩, (fun h => nomatch h), rfl, rfl, capl_of (by rfl)⟩) (ihN rfl) rfl ?_
  refine bcall (pc' := 85) rfl dX0_guard_82 rfl (trivial) (lcv (n := 1) rfl (pvc (lfv mt_X0_tells ⟨by decide, by decide⟩ mok_X0_tells ⟨by decide, by decide⟩ ⟨q1391, ln_267, Or.inl ⟨q1389, Or.inl qs6⟩⟩) (trivial)) (Or.inl (by decide))) (ihN rfl) rfl ?_
  refine bplain (pc' := 86) rfl dX0_guard_85 rfl (ihN rfl) rfl ?_
  refine bret (pc' := 87) rfl dX0_guard_86 rfl (Or.inl ⟨rfl, rfl⟩) (ihN rfl) rfl ?_
  exact trivial
theorem tf_X0_guard : ∀ x ∈ tb_X0_guard, BOK mt 142 x.1 x.2 := tb_c mt_X0_guard bf_X0_guard_0 (tb_c mt_X0_guard bf_X0_guard_33 (tb_c mt_X0_guard bf_X0_guard_36 (tb_n)))
theorem bf_X3_guard_0 : BOKt mt tX3_guard 143 0 b_X3_guard_0 := by
  refine bplain (pc' := 1) rfl dX3_guard_0 rfl (ihN rfl) rfl ?_
  refine bplain (pc' := 2) rfl dX3_guard_1 rfl (ihN rfl) rfl ?_
  refine bcall (pc' := 5) rfl dX3_guard_2 rfl (trivial) (lcv (n := 1) rfl (pvc (lfv mt_X3_isStatement ⟨by decide, by decide⟩ mok_X3_isStatement ⟨by decide, by decide⟩ ⟨q2822, ln_222, Or.inl ⟨q2820, Or.inl qs69⟩⟩) (trivial)) (Or.inl (by decide))) (ihN rfl) rfl ?_
  refine bjmp (tg := 29) (pc' := 8) rfl (by decide) (by decide) rfl dX3_guard_5 rfl (ihN rfl) rfl ?_
  refine bplain (pc' := 9) rfl dX3_guard_8 rfl (ihN rfl) rfl ?_
  refine bplain (pc' := 10) rfl dX3_guard_9 rfl (ihN rfl) rfl ?_
  refine bplain (pc' := 12) rfl dX3_guard_10 rfl (ihN rfl) rfl ?_
  refine bcall (pc' := 15) rfl dX3_guard_12 rfl (trivial) (lcs (l := q2747) mt_X3_in ⟨by decide, by decide⟩ mok_X3_in rfl ln_226 (Or.inl q2746)) (ihN rfl) rfl ?_
  refine bjmp (tg := 29) (pc' := 18) rfl (by decide) (by decide) rfl dX3_guard_15 rfl (ihN rfl) rfl ?_
  refine bplain (pc' := 19) rfl dX3_guard_18 rfl (ihN rfl) rfl ?_
  refine bplain (pc' := 20) rfl dX3_guard_19 rfl (ihN rfl) rfl ?_
  refine bplain (pc' := 21) rfl dX3_guard_20 rfl (ihN rfl) rfl ?_
  refine bplain (pc' := 22) rfl dX3_guard_21 rfl (ihN rfl) rfl ?_
  refine bplain (pc' := 23) rfl dX3_guard_22 rfl (ihN rfl) rfl ?_
  refine bcall (pc' := 26) rfl dX3_guard_23 rfl (trivial) (lcs (l := q2747) mt_X3_in ⟨by decide, by decide⟩ mok_X3_in rfl ln_226 (Or.inl q2746)) (ihN rfl) rfl ?_
  refine bjmp (tg := 32) (pc' := 29) rfl (by decide) (by decide) rfl dX3_guard_26 rfl (ihN rfl) rfl ?_
  exact bnop0 rfl (by decide)
theorem bf_X3_guard_29 : BOKt mt tX3_guard 143 29 b_X3_guard_29 := by
  refine bnop1 ?_
  refine bplain (pc' := 31) rfl dX3_guard_29 rfl (ihN rfl) rfl ?_
  refine bret (pc' := 32) rfl dX3_guard_31 rfl (Or.inl ⟨rfl, rfl⟩) (ihN rfl) rfl ?_
  exact trivial
theorem bf_X3_guard_32 : BOKt mt tX3_guard 143 32 b_X3_guard_32 := by
  refine bplain (pc' := 33) rfl dX3_guard_32 rfl (ihN rfl) rfl ?_
  refine bplain (pc' := 34) rfl dX3_guard_33 rfl (ihN rfl) rfl ?_
  refine bplain (pc' := 35) rfl dX3_guard_34 rfl (ihN rfl) rfl ?_
  refine bplain (pc' := 36) rfl dX3_guard_35 rfl (ihN rfl) rfl ?_
  refine bthr (pc' := 39) rfl dX3_guard_36 rfl (lkf0 q2607 lf_159) (trivial) (ihN rfl) rfl ?_
  refine bplain (pc' := 40) rfl dX3_guard_39 rfl (ihN rfl) rfl ?_
  refine bplain (pc' := 41) rfl dX3_guard_40 rfl (ihN rfl) rfl ?_
  refine bplain (pc' := 42) rfl dX3_guard_41 rfl (ihN rfl) rfl ?_
  refine bthr (pc' := 45) rfl dX3_guard_42 rfl (lkf0 q2608 lf_161) (trivial) (ihN rfl) rfl ?_
  refine bplain (pc' := 46) rfl dX3_guard_45 rfl (ihN rfl) rfl ?_
  refine bplain (pc' := 47) rfl dX3_guard_46 rfl (ihN rfl) rfl ?_
  refine bplain (pc' := 48) rfl dX3_guard_47 rfl (ihN rfl) rfl ?_
  refine bcall (pc' := 51) rfl dX3_guard_48 rfl (trivial) (lcv (n := 5) rfl (pvc (lfv mt_X3_logs ⟨by decide, by decide⟩ mok_X3_logs ⟨by decide, by decide⟩ ⟨q2794, ln_275, Or.inl ⟨q2792, Or.inl qs66⟩⟩) (trivial)) (Or.inl (by decide))) (ihN rfl) rfl ?_
  refine bplain (pc' := 52) rfl dX3_guard_51 rfl (ihN rfl) rfl ?_
  refine bthr (pc' := 55) rfl dX3_guard_52 rfl (lkf0 q2607 lf_159) (trivial) (ihN rfl) rfl ?_
  refine bplain (pc' := 56) rfl dX3_guard_55 rfl (ihN rfl) rfl ?_
  refine bplain (pc' := 57) rfl dX3_guard_56 rfl (ihN rfl) rfl ?_
  refine bplain (pc' := 58) rfl dX3_guard_57 rfl (ihN rfl) rfl ?_
  refine bplain (pc' := 59) rfl dX3_guard_58 rfl (ihN rfl) rfl ?_
  refine bthr (pc' := 62) rfl dX3_guard_59 rfl (lkf0 q2608 lf_161) (trivial) (ihN rfl) rfl ?_
  refine bplain (pc' := 63) rfl dX3_guard_62 rfl (ihN rfl) rfl ?_
  refine bplain (pc' := 64) rfl dX3_guard_63 rfl (ihN rfl) rfl ?_
  refine bplain (pc' := 65) rfl dX3_guard_64 rfl (ihN rfl) rfl ?_
  refine bplain (pc' := 66) rfl dX3_guard_65 rfl (ihN rfl) rfl ?_
  refine bret (pc' := 67) rfl dX3_guard_66 rfl (Or.inl ⟨rfl, rfl⟩) (ihN rfl) rfl ?_
  exact trivial
theorem tf_X3_guard : ∀ x ∈ tb_X3_guard, BOK mt 143 x.1 x.2 := tb_c mt_X3_guard bf_X3_guard_0 (tb_c mt_X3_guard bf_X3_guard_29 (tb_c mt_X3_guard bf_X3_guard_32 (tb_n)))
theorem bf_X0_mask_0 : BOKt mt tX0_mask 144 0 b_X0_mask_0 := by
  refine bplain (pc' := 1) rfl dX0_mask_0 rfl (ihN rfl) rfl ?_
  refine bplain (pc' := 2) rfl dX0_mask_1 rfl (ihN rfl) rfl ?_
  refine bcall (pc' := 5) rfl dX0_mask_2 rfl (trivial) (lcv (n := 1) rfl (pvc (lfv mt_X0_isStatement ⟨by decide, by decide⟩ mok_X0_isStatement ⟨by decide, by decide⟩ ⟨q1773, ln_222, Or.inl ⟨q1771, Or.inl qs16⟩⟩) (trivial)) (Or.inl (by decide))) (ihN rfl) rfl ?_
  refine bjmp (tg := 22) (pc' := 8) rfl (by decide) (by decide) rfl dX0_mask_5 rfl (ihN rfl) rfl ?_
  refine bplain (pc' := 9) rfl dX0_mask_8 rfl (ihN rfl) rfl ?_
  refine bplain (pc' := 10) rfl dX0_mask_9 rfl (ihN rfl) rfl ?_
  refine bobj (pc' := 13) rfl dX0_mask_10 rfl (lkq0 lc_355 q1822) (ihN rfl) rfl ?_
  refine bobj (pc' := 16) rfl dX0_mask_13 rfl (lkq0 lc_209 q1212) (ihN rfl) rfl ?_
  refine bcall (pc' := 19) rfl dX0_mask_16 rfl (trivial) (lcs (l := q1214) mt_X0_in ⟨by decide, by decide⟩ mok_X0_in rfl ln_210 (Or.inl q1213)) (ihN rfl) rfl ?_
  refine bjmp (tg := 25) (pc' := 22) rfl (by decide) (by decide) rfl dX0_mask_19 rfl (ihN rfl) rfl ?_
  exact bnop0 rfl (by decide)
theorem bf_X0_mask_22 : BOKt mt tX0_mask 144 22 b_X0_mask_22 := by
  refine bnop1 ?_
  refine bplain (pc' := 24) rfl dX0_mask_22 rfl (ihN rfl) rfl ?_
  refine bret (pc' := 25) rfl dX0_mask_24 rfl (Or.inl ⟨rfl, rfl⟩) (ihN rfl) rfl ?_
  exact trivial
theorem bf_X0_mask_25 : BOKt mt tX0_mask 144 25 b_X0_mask_25 := by
  refine bplain (pc' := 26) rfl dX0_mask_25 rfl (ihN rfl) rfl ?_
  refine bthr (pc' := 29) rfl dX0_mask_26 rfl (lkf0 q1115 lf_116) (trivial) (ihN rfl) rfl ?_
  refine bplain (pc' := 30) rfl dX0_mask_29 rfl (ihN rfl) rfl ?_
  refine bcall (pc' := 33) rfl dX0_mask_30 rfl (trivial) (lcv (n := 1) rfl (pvc (lfv mt_J20_get ⟨by decide, by decide⟩ mok_J20_get ⟨by decide, by decide⟩ ⟨q1777, ln_338, Or.inl ⟨q1776, Or.inl q1778⟩⟩) (trivial)) (Or.inl (by decide))) (ihN rfl) rfl ?_
  refine bthr (pc' := 36) rfl dX0_mask_33 rfl (lkc (nm := "StrideTurns$Statement") q1651 lg_340 lb_341) (Or.inl rfl) (ihN rfl) rfl ?_
  refine bplain (pc' := 37) rfl dX0_mask_36 rfl (ihN rfl) rfl ?_
  refine bplain (pc' := 38) rfl dX0_mask_37 rfl (ihN rfl) rfl ?_
  refine bthr (pc' := 41) rfl dX0_mask_38 rfl (lkf1 (host := "StrideTurns") (by decide) q1706 lf_318) (trivial) (ihN rfl) rfl ?_
  refine bplain (pc' := 43) rfl dX0_mask_41 rfl (ihN rfl) rfl ?_
  refine bplain (pc' := 44) rfl dX0_mask_43 rfl (ihN rfl) rfl ?_
  refine bplain (pc' := 45) rfl dX0_mask_44 rfl (ihN rfl) rfl ?_
  refine bobj (pc' := 48) rfl dX0_mask_45 rfl (⟨lkf1 (host := "StrideTurns") (by decide) q1706 lf_318, lkp0 lp_319⟩) (ihN rfl) rfl ?_
  refine bplain (pc' := 49) rfl dX0_mask_48 rfl (ihN rfl) rfl ?_
  refine bplain (pc' := 50) rfl dX0_mask_49 rfl (ihN rfl) rfl ?_
  refine bplain (pc' := 52) rfl dX0_mask_50 rfl (ihN rfl) rfl ?_
  refine bcall (pc' := 57) rfl dX0_mask_52 rfl (trivial) (⟨39, rfl, ⟨⟨by decide, by decide⟩, rfl, rfl, rfl⟩, (fun h => nomatch h), rfl, rfl, capl_of (by rfl)⟩) (ihN rfl) rfl ?_
  refine bcall (pc' := 60) rfl dX0_mask_57 rfl (trivial) (lcv (n := 1) rfl (pvc (lfv mt_X0_tells ⟨by decide, by decide⟩ mok_X0_tells ⟨by decide, by decide⟩ ⟨q1391, ln_267, Or.inl ⟨q1389, Or.inl qs6⟩⟩) (trivial)) (Or.inl (by decide))) (ihN rfl) rfl ?_
  refine bplain (pc' := 62) rfl dX0_mask_60 rfl (ihN rfl) rfl ?_
  refine bret (pc' := 63) rfl dX0_mask_62 rfl (Or.inl ⟨rfl, rfl⟩) (ihN rfl) rfl ?_
  exact trivial
theorem tf_X0_mask : ∀ x ∈ tb_X0_mask, BOK mt 144 x.1 x.2 := tb_c mt_X0_mask bf_X0_mask_0 (tb_c mt_X0_mask bf_X0_mask_22 (tb_c mt_X0_mask bf_X0_mask_25 (tb_n)))
theorem bf_X3_mask_0 : BOKt mt tX3_mask 145 0 b_X3_mask_0 := by
  refine bplain (pc' := 1) rfl dX3_mask_0 rfl (ihN rfl) rfl ?_
  refine bplain (pc' := 2) rfl dX3_mask_1 rfl (ihN rfl) rfl ?_
  refine bcall (pc' := 5) rfl dX3_mask_2 rfl (trivial) (lcv (n := 1) rfl (pvc (lfv mt_X3_isStatement ⟨by decide, by decide⟩ mok_X3_isStatement ⟨by decide, by decide⟩ ⟨q2822, ln_222, Or.inl ⟨q2820, Or.inl qs69⟩⟩) (trivial)) (Or.inl (by decide))) (ihN rfl) rfl ?_
  refine bjmp (tg := 17) (pc' := 8) rfl (by decide) (by decide) rfl dX3_mask_5 rfl (ihN rfl) rfl ?_
  refine bplain (pc' := 9) rfl dX3_mask_8 rfl (ihN rfl) rfl ?_
  refine bplain (pc' := 10) rfl dX3_mask_9 rfl (ihN rfl) rfl ?_
  refine bplain (pc' := 11) rfl dX3_mask_10 rfl (ihN rfl) rfl ?_
  refine bcall (pc' := 14) rfl dX3_mask_11 rfl (trivial) (lcs (l := q2747) mt_X3_in ⟨by decide, by decide⟩ mok_X3_in rfl ln_226 (Or.inl q2746)) (ihN rfl) rfl ?_
  refine bjmp (tg := 20) (pc' := 17) rfl (by decide) (by decide) rfl dX3_mask_14 rfl (ihN rfl) rfl ?_
  exact bnop0 rfl (by decide)
theorem bf_X3_mask_17 : BOKt mt tX3_mask 145 17 b_X3_mask_17 := by
  refine bnop1 ?_
  refine bplain (pc' := 19) rfl dX3_mask_17 rfl (ihN rfl) rfl ?_
  refine bret (pc' := 20) rfl dX3_mask_19 rfl (Or.inl ⟨rfl, rfl⟩) (ihN rfl) rfl ?_
  exact trivial
theorem bf_X3_mask_20 : BOKt mt tX3_mask 145 20 b_X3_mask_20 := by
  refine bplain (pc' := 21) rfl dX3_mask_20 rfl (ihN rfl) rfl ?_
  refine bthr (pc' := 24) rfl dX3_mask_21 rfl (lkf0 q2609 lf_163) (trivial) (ihN rfl) rfl ?_
  refine bplain (pc' := 25) rfl dX3_mask_24 rfl (ihN rfl) rfl ?_
  refine bplain (pc' := 26) rfl dX3_mask_25 rfl (ihN rfl) rfl ?_
  refine bplain (pc' := 27) rfl dX3_mask_26 rfl (ihN rfl) rfl ?_
  refine bplain (pc' := 28) rfl dX3_mask_27 rfl (ihN rfl) rfl ?_
  refine bplain (pc' := 29) rfl dX3_mask_28 rfl (ihN rfl) rfl ?_
  refine bplain (pc' := 30) rfl dX3_mask_29 rfl (ihN rfl) rfl ?_
  refine bplain (pc' := 31) rfl dX3_mask_30 rfl (ihN rfl) rfl ?_
  refine bplain (pc' := 32) rfl dX3_mask_31 rfl (ihN rfl) rfl ?_
  refine bplain (pc' := 33) rfl dX3_mask_32 rfl (ihN rfl) rfl ?_
  refine bcall (pc' := 36) rfl dX3_mask_33 rfl (trivial) (lcv (n := 5) rfl (pvc (lfv mt_X3_logs ⟨by decide, by decide⟩ mok_X3_logs ⟨by decide, by decide⟩ ⟨q2794, ln_275, Or.inl ⟨q2792, Or.inl qs66⟩⟩) (trivial)) (Or.inl (by decide))) (ihN rfl) rfl ?_
  refine bplain (pc' := 37) rfl dX3_mask_36 rfl (ihN rfl) rfl ?_
  refine bthr (pc' := 40) rfl dX3_mask_37 rfl (lkf0 q2609 lf_163) (trivial) (ihN rfl) rfl ?_
  refine bplain (pc' := 41) rfl dX3_mask_40 rfl (ihN rfl) rfl ?_
  refine bplain (pc' := 42) rfl dX3_mask_41 rfl (ihN rfl) rfl ?_
  refine bplain (pc' := 43) rfl dX3_mask_42 rfl (ihN rfl) rfl ?_
  refine bplain (pc' := 44) rfl dX3_mask_43 rfl (ihN rfl) rfl ?_
  refine bret (pc' := 45) rfl dX3_mask_44 rfl (Or.inl ⟨rfl, rfl⟩) (ihN rfl) rfl ?_
  exact trivial
theorem tf_X3_mask : ∀ x ∈ tb_X3_mask, BOK mt 145 x.1 x.2 := tb_c mt_X3_mask bf_X3_mask_0 (tb_c mt_X3_mask bf_X3_mask_17 (tb_c mt_X3_mask bf_X3_mask_20 (tb_n)))
theorem bf_J21_dec_0 : BOKt mt tJ21_dec 146 0 b_J21_dec_0 := by
  refine bplain (pc' := 3) rfl dJ21_dec_0 rfl (ihN rfl) rfl ?_
  refine bplain (pc' := 4) rfl dJ21_dec_3 rfl (ihN rfl) rfl ?_
  refine bjmp (tg := 11) (pc' := 7) rfl (by decide) (by decide) rfl dJ21_dec_4 rfl (ihN rfl) rfl ?_
  refine bplain (pc' := 8) rfl dJ21_dec_7 rfl (ihN rfl) rfl ?_
  refine bplain (pc' := 9) rfl dJ21_dec_8 rfl (ihN rfl) rfl ?_
  refine bplain (pc' := 10) rfl dJ21_dec_9 rfl (ihN rfl) rfl ?_
  refine bplain (pc' := 11) rfl dJ21_dec_10 rfl (ihN rfl) rfl ?_
  exact bnop0 rfl (by decide)
theorem bf_J21_dec_11 : BOKt mt tJ21_dec 146 11 b_J21_dec_11 := by
  refine bnop1 ?_
  refine bplain (pc' := 12) rfl dJ21_dec_11 rfl (ihN rfl) rfl ?_
  refine bret (pc' := 13) rfl dJ21_dec_12 rfl (Or.inl ⟨rfl, rfl⟩) (ihN rfl) rfl ?_
  exact trivial
theorem tf_J21_dec : ∀ x ∈ tb_J21_dec, BOK mt 146 x.1 x.2 := tb_c mt_J21_dec bf_J21_dec_0 (tb_c mt_J21_dec bf_J21_dec_11 (tb_n))
theorem bf_J21_pollLast_0 : BOKt mt tJ21_pollLast 147 0 b_J21_pollLast_0 := by
  refine bplain (pc' := 1) rfl dJ21_pollLast_0 rfl (ihN rfl) rfl ?_
  refine bthr (pc' := 4) rfl dJ21_pollLast_1 rfl (lkf0 q1062 lf_102) (trivial) (ihN rfl) rfl ?_
  refine bplain (pc' := 5) rfl dJ21_pollLast_4 rfl (ihN rfl) rfl ?_
  refine bplain (pc' := 6) rfl dJ21_pollLast_5 rfl (ihN rfl) rfl ?_
  refine bplain (pc' := 7) rfl dJ21_pollLast_6 rfl (ihN rfl) rfl ?_
  refine bthr (pc' := 10) rfl dJ21_pollLast_7 rfl (lkf0 q1066 lf_253) (trivial) (ihN rfl) rfl ?_
  refine bplain (pc' := 11) rfl dJ21_pollLast_10 rfl (ihN rfl) rfl ?_
  refine bplain (pc' := 12) rfl dJ21_pollLast_11 rfl (ihN rfl) rfl ?_
  refine bcall (pc' := 15) rfl dJ21_pollLast_12 rfl (trivial) (lcs (l := q1834) mt_J21_dec ⟨by decide, by decide⟩ mok_J21_dec rfl ln_252 (Or.inl q1833)) (ihN rfl) rfl ?_
  refine bplain (pc' := 16) rfl dJ21_pollLast_15 rfl (ihN rfl) rfl ?_
  refine bplain (pc' := 17) rfl dJ21_pollLast_16 rfl (ihN rfl) rfl ?_
  refine bcall (pc' := 20) rfl dJ21_pollLast_17 rfl (trivial) (lcs (l := q1405) mt_J21_elementAt ⟨by decide, by decide⟩ mok_J21_elementAt rfl ln_256 (Or.inl q1404)) (ihN rfl) rfl ?_
  refine bplain (pc' := 21) rfl dJ21_pollLast_20 rfl (ihN rfl) rfl ?_
  refine bplain (pc' := 22) rfl dJ21_pollLast_21 rfl (ihN rfl) rfl ?_
  refine bjmp (tg := 34) (pc' := 25) rfl (by decide) (by decide) rfl dJ21_pollLast_22 rfl (ihN rfl) rfl ?_
  refine bplain (pc' := 26) rfl dJ21_pollLast_25 rfl (ihN rfl) rfl ?_
  refine bplain (pc' := 27) rfl dJ21_pollLast_26 rfl (ihN rfl) rfl ?_
  refine bplain (pc' := 28) rfl dJ21_pollLast_27 rfl (ihN rfl) rfl ?_
  refine bplain (pc' := 29) rfl dJ21_pollLast_28 rfl (ihN rfl) rfl ?_
  refine bobj (pc' := 32) rfl dJ21_pollLast_29 rfl (⟨lkf0 q1066 lf_253, lkp0 lp_265⟩) (ihN rfl) rfl ?_
  refine bplain (pc' := 33) rfl dJ21_pollLast_32 rfl (ihN rfl) rfl ?_
  refine bplain (pc' := 34) rfl dJ21_pollLast_33 rfl (ihN rfl) rfl ?_
  exact bnop0 rfl (by decide)
theorem bf_J21_pollLast_34 : BOKt mt tJ21_pollLast 147 34 b_J21_pollLast_34 := by
  refine bnop1 ?_
  refine bplain (pc' := 35) rfl dJ21_pollLast_34 rfl (ihN rfl) rfl ?_
  refine bret (pc' := 36) rfl dJ21_pollLast_35 rfl (⟨_, rfl, Or.inl ⟨_, rfl⟩⟩) (ihN rfl) rfl ?_
  exact trivial
theorem tf_J21_pollLast : ∀ x ∈ tb_J21_pollLast, BOK mt 147 x.1 x.2 := tb_c mt_J21_pollLast bf_J21_pollLast_0 (tb_c mt_J21_pollLast bf_J21_pollLast_34 (tb_n))
theorem bf_X0_lambda_turns_0_0 : BOKt mt tX0_lambda_turns_0 148 0 b_X0_lambda_turns_0_0 := by
  refine bplain (pc' := 1) rfl dX0_lambda_turns_0_0 rfl (ihN rfl) rfl ?_
  refine bplain (pc' := 2) rfl dX0_lambda_turns_0_1 rfl (ihN rfl) rfl ?_
  refine bobj (pc' := 5) rfl dX0_lambda_turns_0_2 rfl (⟨lkf0 q1118 lf_270, lkp0 lp_271⟩) (ihN rfl) rfl ?_
  refine bplain (pc' := 6) rfl dX0_lambda_turns_0_5 rfl (ihN rfl) rfl ?_
  refine bret (pc' := 7) rfl dX0_lambda_turns_0_6 rfl (Or.inl ⟨rfl, rfl⟩) (ihN rfl) rfl ?_
  exact trivial
theorem tf_X0_lambda_turns_0 : ∀ x ∈ tb_X0_lambda_turns_0, BOK mt 148 x.1 x.2 := tb_c mt_X0_lambda_turns_0 bf_X0_lambda_turns_0_0 (tb_n)
theorem bf_J20_fastRemove_0 : BOKt mt tJ20_fastRemove 149 0 b_J20_fastRemove_0 := by
  refine bplain (pc' := 1) rfl dJ20_fastRemove_0 rfl (ihN rfl) rfl ?_
  refine bplain (pc' := 2) rfl dJ20_fastRemove_1 rfl (ihN rfl) rfl ?_
  refine bthr (pc' := 5) rfl dJ20_fastRemove_2 rfl (lkf0 q1047 lf_329) (trivial) (ihN rfl) rfl ?_
  refine bplain (pc' := 6) rfl dJ20_fastRemove_5 rfl (ihN rfl) rfl ?_
  refine bplain (pc' := 7) rfl dJ20_fastRemove_6 rfl (ihN rfl) rfl ?_
  refine bobj (pc' := 10) rfl dJ20_fastRemove_7 rfl (⟨lkf0 q1047 lf_329, lkp0 lp_99⟩) (ihN rfl) rfl ?_
  refine bplain (pc' := 11) rfl dJ20_fastRemove_10 rfl (ihN rfl) rfl ?_
  refine bthr (pc' := 14) rfl dJ20_fastRemove_11 rfl (lkf0 q1043 lf_307) (trivial) (ihN rfl) rfl ?_
  refine bplain (pc' := 15) rfl dJ20_fastRemove_14 rfl (ihN rfl) rfl ?_
  refine bplain (pc' := 16) rfl dJ20_fastRemove_15 rfl (ihN rfl) rfl ?_
  refine bplain (pc' := 17) rfl dJ20_fastRemove_16 rfl (ihN rfl) rfl ?_
  refine bplain (pc' := 18) rfl dJ20_fastRemove_17 rfl (ihN rfl) rfl ?_
  refine bplain (pc' := 19) rfl dJ20_fastRemove_18 rfl (ihN rfl) rfl ?_
  refine bjmp (tg := 34) (pc' := 22) rfl (by decide) (by decide) rfl dJ20_fastRemove_19 rfl (ihN rfl) rfl ?_
  refine bplain (pc' := 23) rfl dJ20_fastRemove_22 rfl (ihN rfl) rfl ?_
  refine bplain (pc' := 24) rfl dJ20_fastRemove_23 rfl (ihN rfl) rfl ?_
  refine bplain (pc' := 25) rfl dJ20_fastRemove_24 rfl (ihN rfl) rfl ?_
  refine bplain (pc' := 26) rfl dJ20_fastRemove_25 rfl (ihN rfl) rfl ?_
  refine bplain (pc' := 27) rfl dJ20_fastRemove_26 rfl (ihN rfl) rfl ?_
  refine bplain (pc' := 28) rfl dJ20_fastRemove_27 rfl (ihN rfl) rfl ?_
  refine bplain (pc' := 29) rfl dJ20_fastRemove_28 rfl (ihN rfl) rfl ?_
  refine bplain (pc' := 30) rfl dJ20_fastRemove_29 rfl (ihN rfl) rfl ?_
  refine bplain (pc' := 31) rfl dJ20_fastRemove_30 rfl (ihN rfl) rfl ?_
  refine bcall (pc' := 34) rfl dJ20_fastRemove_31 rfl (⟨q1762, q1380, q1379, q171⟩) (Or.inl rfl) (ihN rfl) rfl ?_
  exact bnop0 rfl (by decide)
theorem bf_J20_fastRemove_34 : BOKt mt tJ20_fastRemove 149 34 b_J20_fastRemove_34 := by
  refine bnop1 ?_
  refine bplain (pc' := 35) rfl dJ20_fastRemove_34 rfl (ihN rfl) rfl ?_
  refine bplain (pc' := 36) rfl dJ20_fastRemove_35 rfl (ihN rfl) rfl ?_
  refine bplain (pc' := 37) rfl dJ20_fastRemove_36 rfl (ihN rfl) rfl ?_
  refine bplain (pc' := 38) rfl dJ20_fastRemove_37 rfl (ihN rfl) rfl ?_
  refine bobj (pc' := 41) rfl dJ20_fastRemove_38 rfl (⟨lkf0 q1043 lf_307, lkp0 lp_328⟩) (ihN rfl) rfl ?_
  refine bplain (pc' := 42) rfl dJ20_fastRemove_41 rfl (ihN rfl) rfl ?_
  refine bplain (pc' := 43) rfl dJ20_fastRemove_42 rfl (ihN rfl) rfl ?_
  refine bret (pc' := 44) rfl dJ20_fastRemove_43 rfl (rfl) (ihN rfl) rfl ?_
  exact trivial
theorem tf_J20_fastRemove : ∀ x ∈ tb_J20_fastRemove, BOK mt 149 x.1 x.2 := tb_c mt_J20_fastRemove bf_J20_fastRemove_0 (tb_c mt_J20_fastRemove bf_J20_fastRemove_34 (tb_n))
theorem bf_J20_remove_0 : BOKt mt tJ20_remove 150 0 b_J20_remove_0 := by
  refine bplain (pc' := 1) rfl dJ20_remove_0 rfl (ihN rfl) rfl ?_
  refine bplain (pc' := 2) rfl dJ20_remove_1 rfl (ihN rfl) rfl ?_
  refine bthr (pc' := 5) rfl dJ20_remove_2 rfl (lkf0 q1043 lf_307) (trivial) (ihN rfl) rfl ?_
  refine bcall (pc' := 8) rfl dJ20_remove_5 rfl (trivial) (lcs (l := q1755) mt_J33_checkIndex ⟨by decide, by decide⟩ mok_J33_checkIndex rfl ln_252 (Or.inl q1754)) (ihN rfl) rfl ?_
  refine bplain (pc' := 9) rfl dJ20_remove_8 rfl (ihN rfl) rfl ?_
  refine bplain (pc' := 10) rfl dJ20_remove_9 rfl (ihN rfl) rfl ?_
  refine bthr (pc' := 13) rfl dJ20_remove_10 rfl (lkf0 q1040 lf_100) (trivial) (ihN rfl) rfl ?_
  refine bplain (pc' := 14) rfl dJ20_remove_13 rfl (ihN rfl) rfl ?_
  refine bplain (pc' := 15) rfl dJ20_remove_14 rfl (ihN rfl) rfl ?_
  refine bplain (pc' := 16) rfl dJ20_remove_15 rfl (ihN rfl) rfl ?_
  refine bplain (pc' := 17) rfl dJ20_remove_16 rfl (ihN rfl) rfl ?_
  refine bplain (pc' := 18) rfl dJ20_remove_17 rfl (ihN rfl) rfl ?_
  refine bplain (pc' := 19) rfl dJ20_remove_18 rfl (ihN rfl) rfl ?_
  refine bplain (pc' := 20) rfl dJ20_remove_19 rfl (ihN rfl) rfl ?_
  refine bplain (pc' := 21) rfl dJ20_remove_20 rfl (ihN rfl) rfl ?_
  refine bcall (pc' := 24) rfl dJ20_remove_21 rfl (trivial) (lcv (n := 2) rfl (pvc (lfv mt_J20_fastRemove ⟨by decide, by decide⟩ mok_J20_fastRemove ⟨by decide, by decide⟩ ⟨q1760, ln_356, Or.inl ⟨q1758, Or.inl qs14⟩⟩) (trivial)) (Or.inl (by decide))) (ihN rfl) rfl ?_
  refine bplain (pc' := 25) rfl dJ20_remove_24 rfl (ihN rfl) rfl ?_
  refine bret (pc' := 26) rfl dJ20_remove_25 rfl (⟨_, rfl, Or.inl ⟨_, rfl⟩⟩) (ihN rfl) rfl ?_
  exact trivial
theorem tf_J20_remove : ∀ x ∈ tb_J20_remove, BOK mt 150 x.1 x.2 := tb_c mt_J20_remove bf_J20_remove_0 (tb_n)
theorem bf_X0_lambda_statement_1_0 : BOKt mt tX0_lambda_statement_1 151 0 b_X0_lambda_statement_1_0 := by
  refine bplain (pc' := 1) rfl dX0_lambda_statement_1_0 rfl (ihN rfl) rfl ?_
  refine bthr (pc' := 4) rfl dX0_lambda_statement_1_1 rfl (lkf0 q1115 lf_116) (trivial) (ihN rfl) rfl ?_
  refine bplain (pc' := 5) rfl dX0_lambda_statement_1_4 rfl (ihN rfl) rfl ?_
  refine bthr (pc' := 8) rfl dX0_lambda_statement_1_5 rfl (lkf0 q1115 lf_116) (trivial) (ihN rfl) rfl ?_
  refine bcall (pc' := 11) rfl dX0_lambda_statement_1_8 rfl (trivial) (lcv (n := 0) rfl (pvc (lfv mt_J20_size ⟨by decide, by decide⟩ mok_J20_size ⟨by decide, by decide⟩ ⟨q1648, ln_40, Or.inl ⟨q1647, Or.inl q1649⟩⟩) (trivial)) (Or.inl (by decide))) (ihN rfl) rfl ?_
  refine bplain (pc' := 12) rfl dX0_lambda_statement_1_11 rfl (ihN rfl) rfl ?_
  refine bplain (pc' := 13) rfl dX0_lambda_statement_1_12 rfl (ihN rfl) rfl ?_
  refine bcall (pc' := 16) rfl dX0_lambda_statement_1_13 rfl (trivial) (lcv (n := 1) rfl (pvc (lfv mt_J20_remove ⟨by decide, by decide⟩ mok_J20_remove ⟨by decide, by decide⟩ ⟨q1751, ln_338, Or.inl ⟨q1750, Or.inl q1752⟩⟩) (trivial)) (Or.inl (by decide))) (ihN rfl) rfl ?_
  refine bplain (pc' := 17) rfl dX0_lambda_statement_1_16 rfl (ihN rfl) rfl ?_
  refine bplain (pc' := 18) rfl dX0_lambda_statement_1_17 rfl (ihN rfl) rfl ?_
  refine bret (pc' := 19) rfl dX0_lambda_statement_1_18 rfl (Or.inl ⟨rfl, rfl⟩) (ihN rfl) rfl ?_
  exact trivial
theorem tf_X0_lambda_statement_1 : ∀ x ∈ tb_X0_lambda_statement_1, BOK mt 151 x.1 x.2 := tb_c mt_X0_lambda_statement_1 bf_X0_lambda_statement_1_0 (tb_n)
theorem bf_X0_lambda_refer_2_0 : BOKt mt tX0_lambda_refer_2 152 0 b_X0_lambda_refer_2_0 := by
  refine bplain (pc' := 1) rfl dX0_lambda_refer_2_0 rfl (ihN rfl) rfl ?_
  refine bplain (pc' := 2) rfl dX0_lambda_refer_2_1 rfl (ihN rfl) rfl ?_
  refine bobj (pc' := 5) rfl dX0_lambda_refer_2_2 rfl (⟨lkf1 (host := "StrideTurns") (by decide) q1669 lf_310, lkp0 lp_311⟩) (ihN rfl) rfl ?_
  refine bplain (pc' := 6) rfl dX0_lambda_refer_2_5 rfl (ihN rfl) rfl ?_
  refine bret (pc' := 7) rfl dX0_lambda_refer_2_6 rfl (Or.inl ⟨rfl, rfl⟩) (ihN rfl) rfl ?_
  exact trivial
theorem tf_X0_lambda_refer_2 : ∀ x ∈ tb_X0_lambda_refer_2, BOK mt 152 x.1 x.2 := tb_c mt_X0_lambda_refer_2 bf_X0_lambda_refer_2_0 (tb_n)
theorem bf_X0_lambda_place_3_0 : BOKt mt tX0_lambda_place_3 153 0 b_X0_lambda_place_3_0 := by
  refine bplain (pc' := 1) rfl dX0_lambda_place_3_0 rfl (ihN rfl) rfl ?_
  refine bplain (pc' := 2) rfl dX0_lambda_place_3_1 rfl (ihN rfl) rfl ?_
  refine bplain (pc' := 3) rfl dX0_lambda_place_3_2 rfl (ihN rfl) rfl ?_
  refine bplain (pc' := 4) rfl dX0_lambda_place_3_3 rfl (ihN rfl) rfl ?_
  refine bcall (pc' := 7) rfl dX0_lambda_place_3_4 rfl (trivial) (lcv (n := 3) rfl (pvc (lfv mt_X7_moves ⟨by decide, by decide⟩ mok_X7_moves ⟨by decide, by decide⟩ ⟨q1799, ln_237, Or.inl ⟨q1798, Or.inl q1800⟩⟩) (trivial)) (Or.inl (by decide))) (ihN rfl) rfl ?_
  refine bplain (pc' := 8) rfl dX0_lambda_place_3_7 rfl (ihN rfl) rfl ?_
  refine bret (pc' := 9) rfl dX0_lambda_place_3_8 rfl (Or.inl ⟨rfl, rfl⟩) (ihN rfl) rfl ?_
  exact trivial
theorem tf_X0_lambda_place_3 : ∀ x ∈ tb_X0_lambda_place_3, BOK mt 153 x.1 x.2 := tb_c mt_X0_lambda_place_3 bf_X0_lambda_place_3_0 (tb_n)
theorem bf_X0_lambda_guard_4_0 : BOKt mt tX0_lambda_guard_4 154 0 b_X0_lambda_guard_4_0 := by
  refine bplain (pc' := 1) rfl dX0_lambda_guard_4_0 rfl (ihN rfl) rfl ?_
  refine bplain (pc' := 2) rfl dX0_lambda_guard_4_1 rfl (ihN rfl) rfl ?_
  refine bplain (pc' := 3) rfl dX0_lambda_guard_4_2 rfl (ihN rfl) rfl ?_
  refine bcall (pc' := 6) rfl dX0_lambda_guard_4_3 rfl (trivial) (lcv (n := 2) rfl (pvc (lfv mt_X6_waits ⟨by decide, by decide⟩ mok_X6_waits ⟨by decide, by decide⟩ ⟨q1811, ln_224, Or.inl ⟨q1810, Or.inl q1812⟩⟩) (trivial)) (Or.inl (by decide))) (ihN rfl) rfl ?_
  refine bplain (pc' := 7) rfl dX0_lambda_guard_4_6 rfl (ihN rfl) rfl ?_
  refine bret (pc' := 8) rfl dX0_lambda_guard_4_7 rfl (Or.inl ⟨rfl, rfl⟩) (ihN rfl) rfl ?_
  exact trivial
theorem tf_X0_lambda_guard_4 : ∀ x ∈ tb_X0_lambda_guard_4, BOK mt 154 x.1 x.2 := tb_c mt_X0_lambda_guard_4 bf_X0_lambda_guard_4_0 (tb_n)
theorem bf_X0_lambda_mask_5_0 : BOKt mt tX0_lambda_mask_5 155 0 b_X0_lambda_mask_5_0 := by
  refine bplain (pc' := 1) rfl dX0_lambda_mask_5_0 rfl (ihN rfl) rfl ?_
  refine bplain (pc' := 2) rfl dX0_lambda_mask_5_1 rfl (ihN rfl) rfl ?_
  refine bobj (pc' := 5) rfl dX0_lambda_mask_5_2 rfl (⟨lkf1 (host := "StrideTurns") (by decide) q1706 lf_318, lkp0 lp_319⟩) (ihN rfl) rfl ?_
  refine bplain (pc' := 6) rfl dX0_lambda_mask_5_5 rfl (ihN rfl) rfl ?_
  refine bret (pc' := 7) rfl dX0_lambda_mask_5_6 rfl (Or.inl ⟨rfl, rfl⟩) (ihN rfl) rfl ?_
  exact trivial
theorem tf_X0_lambda_mask_5 : ∀ x ∈ tb_X0_lambda_mask_5, BOK mt 155 x.1 x.2 := tb_c mt_X0_lambda_mask_5 bf_X0_lambda_mask_5_0 (tb_n)
theorem bf_X0_undo_0 : BOKt mt tX0_undo 156 0 b_X0_undo_0 := by
  refine bplain (pc' := 1) rfl dX0_undo_0 rfl (ihN rfl) rfl ?_
  refine bthr (pc' := 4) rfl dX0_undo_1 rfl (lkf0 q1119 lf_118) (trivial) (ihN rfl) rfl ?_
  refine bcall (pc' := 7) rfl dX0_undo_4 rfl (trivial) (lcv (n := 0) rfl (pvc (lfv mt_J21_pollLast ⟨by decide, by decide⟩ mok_J21_pollLast ⟨by decide, by decide⟩ ⟨q1830, ln_266, Or.inl ⟨q1829, Or.inl q1831⟩⟩) (trivial)) (Or.inl (by decide))) (ihN rfl) rfl ?_
  refine bthr (pc' := 10) rfl dX0_undo_7 rfl (lkc (nm := "StrideTurns$Told") q1410 lg_357 lb_358) (Or.inl rfl) (ihN rfl) rfl ?_
  refine bplain (pc' := 11) rfl dX0_undo_10 rfl (ihN rfl) rfl ?_
  refine bplain (pc' := 12) rfl dX0_undo_11 rfl (ihN rfl) rfl ?_
  refine bjmp (tg := 20) (pc' := 15) rfl (by decide) (by decide) rfl dX0_undo_12 rfl (ihN rfl) rfl ?_
  refine bplain (pc' := 17) rfl dX0_undo_15 rfl (ihN rfl) rfl ?_
  refine bjmp (tg := 29) (pc' := 20) rfl (by decide) (by decide) rfl dX0_undo_17 rfl (ihN rfl) rfl ?_
  exact trivial
theorem bf_X0_undo_20 : BOKt mt tX0_undo 156 20 b_X0_undo_20 := by
  refine bplain (pc' := 21) rfl dX0_undo_20 rfl (ihN rfl) rfl ?_
  refine bthr (pc' := 24) rfl dX0_undo_21 rfl (lkf1 (host := "StrideTurns") (by decide) q1417 lf_258) (trivial) (ihN rfl) rfl ?_
  refine bcall (pc' := 29) rfl dX0_undo_24 rfl (trivial) (lcl (n := 0) (j := 0) rfl q1837 ln_40 rfl (plc (lfl (q := 30) rfl ⟨by decide, by decide⟩ rfl mt_X0_lambda_turns_0 ⟨by decide, by decide⟩ mok_X0_lambda_turns_0 ll_373 ll_374) (plc (lfl (q := 33) rfl ⟨by decide, by decide⟩ rfl mt_X0_lambda_statement_1 ⟨by decide, by decide⟩ mok_X0_lambda_statement_1 ll_371 ll_372) (plc (lfl (q := 34) rfl ⟨by decide, by decide⟩ rfl mt_X0_lambda_refer_2 ⟨by decide, by decide⟩ mok_X0_lambda_refer_2 ll_369 ll_370) (plc (lfl (q := 36) rfl ⟨by decide, by decide⟩ rfl mt_X0_lambda_place_3 ⟨by decide, by decide⟩ mok_X0_lambda_place_3 ll_366 ll_367) (plc (lfl (q := 38) rfl ⟨by decide, by decide⟩ rfl mt_X0_lambda_guard_4 ⟨by decide, by decide⟩ mok_X0_lambda_guard_4 ll_363 ll_364) (plc (lfl (q := 39) rfl ⟨by decide, by decide⟩ rfl mt_X0_lambda_mask_5 ⟨by decide, by decide⟩ mok_X0_lambda_mask_5 ll_360 ll_361) (trivial)))))))) (ihN rfl) rfl ?_
  exact bnop0 rfl (by decide)
theorem bf_X0_undo_29 : BOKt mt tX0_undo 156 29 b_X0_undo_29 := by
  refine bnop1 ?_
  refine bret (pc' := 30) rfl dX0_undo_29 rfl (Or.inl ⟨rfl, rfl⟩) (ihN rfl) rfl ?_
  exact trivial
theorem tf_X0_undo : ∀ x ∈ tb_X0_undo, BOK mt 156 x.1 x.2 := tb_c mt_X0_undo bf_X0_undo_0 (tb_c mt_X0_undo bf_X0_undo_20 (tb_c mt_X0_undo bf_X0_undo_29 (tb_n)))
theorem bf_X3_undo_0 : BOKt mt tX3_undo 157 0 b_X3_undo_0 := by
  refine bplain (pc' := 1) rfl dX3_undo_0 rfl (ihN rfl) rfl ?_
  refine bthr (pc' := 4) rfl dX3_undo_1 rfl (lkf0 q2615 lf_272) (trivial) (ihN rfl) rfl ?_
  refine bjmp (tg := 10) (pc' := 7) rfl (by decide) (by decide) rfl dX3_undo_4 rfl (ihN rfl) rfl ?_
  refine bplain (pc' := 9) rfl dX3_undo_7 rfl (ihN rfl) rfl ?_
  refine bret (pc' := 10) rfl dX3_undo_9 rfl (Or.inl ⟨rfl, rfl⟩) (ihN rfl) rfl ?_
  exact trivial
theorem bf_X3_undo_10 : BOKt mt tX3_undo 157 10 b_X3_undo_10 := by
  refine bplain (pc' := 11) rfl dX3_undo_10 rfl (ihN rfl) rfl ?_
  refine bplain (pc' := 12) rfl dX3_undo_11 rfl (ihN rfl) rfl ?_
  refine bthr (pc' := 15) rfl dX3_undo_12 rfl (lkf0 q2615 lf_272) (trivial) (ihN rfl) rfl ?_
  refine bplain (pc' := 16) rfl dX3_undo_15 rfl (ihN rfl) rfl ?_
  refine bplain (pc' := 17) rfl dX3_undo_16 rfl (ihN rfl) rfl ?_
  refine bobj (pc' := 20) rfl dX3_undo_17 rfl (⟨lkf0 q2615 lf_272, lkp0 lp_273⟩) (ihN rfl) rfl ?_
  refine bplain (pc' := 21) rfl dX3_undo_20 rfl (ihN rfl) rfl ?_
  refine bthr (pc' := 24) rfl dX3_undo_21 rfl (lkf0 q2614 lf_173) (trivial) (ihN rfl) rfl ?_
  refine bplain (pc' := 26) rfl dX3_undo_24 rfl (ihN rfl) rfl ?_
  refine bplain (pc' := 27) rfl dX3_undo_26 rfl (ihN rfl) rfl ?_
  refine bthr (pc' := 30) rfl dX3_undo_27 rfl (lkf0 q2615 lf_272) (trivial) (ihN rfl) rfl ?_
  refine bplain (pc' := 31) rfl dX3_undo_30 rfl (ihN rfl) rfl ?_
  refine bplain (pc' := 32) rfl dX3_undo_31 rfl (ihN rfl) rfl ?_
  refine bplain (pc' := 33) rfl dX3_undo_32 rfl (ihN rfl) rfl ?_
  refine bplain (pc' := 34) rfl dX3_undo_33 rfl (ihN rfl) rfl ?_
  refine bthr (pc' := 37) rfl dX3_undo_34 rfl (lkf0 q2614 lf_173) (trivial) (ihN rfl) rfl ?_
  refine bplain (pc' := 39) rfl dX3_undo_37 rfl (ihN rfl) rfl ?_
  refine bplain (pc' := 40) rfl dX3_undo_39 rfl (ihN rfl) rfl ?_
  refine bthr (pc' := 43) rfl dX3_undo_40 rfl (lkf0 q2615 lf_272) (trivial) (ihN rfl) rfl ?_
  refine bplain (pc' := 44) rfl dX3_undo_43 rfl (ihN rfl) rfl ?_
  refine bplain (pc' := 45) rfl dX3_undo_44 rfl (ihN rfl) rfl ?_
  refine bplain (pc' := 46) rfl dX3_undo_45 rfl (ihN rfl) rfl ?_
  refine bplain (pc' := 47) rfl dX3_undo_46 rfl (ihN rfl) rfl ?_
  refine bplain (pc' := 48) rfl dX3_undo_47 rfl (ihN rfl) rfl ?_
  refine bplain (pc' := 49) rfl dX3_undo_48 rfl (ihN rfl) rfl ?_
  refine bthr (pc' := 52) rfl dX3_undo_49 rfl (lkf0 q2614 lf_173) (trivial) (ihN rfl) rfl ?_
  refine bplain (pc' := 54) rfl dX3_undo_52 rfl (ihN rfl) rfl ?_
  refine bplain (pc' := 55) rfl dX3_undo_54 rfl (ihN rfl) rfl ?_
  refine bthr (pc' := 58) rfl dX3_undo_55 rfl (lkf0 q2615 lf_272) (trivial) (ihN rfl) rfl ?_
  refine bplain (pc' := 59) rfl dX3_undo_58 rfl (ihN rfl) rfl ?_
  refine bplain (pc' := 60) rfl dX3_undo_59 rfl (ihN rfl) rfl ?_
  refine bplain (pc' := 61) rfl dX3_undo_60 rfl (ihN rfl) rfl ?_
  refine bplain (pc' := 62) rfl dX3_undo_61 rfl (ihN rfl) rfl ?_
  refine bplain (pc' := 63) rfl dX3_undo_62 rfl (ihN rfl) rfl ?_
  refine bplain (pc' := 64) rfl dX3_undo_63 rfl (ihN rfl) rfl ?_
  refine bthr (pc' := 67) rfl dX3_undo_64 rfl (lkf0 q2614 lf_173) (trivial) (ihN rfl) rfl ?_
  refine bplain (pc' := 69) rfl dX3_undo_67 rfl (ihN rfl) rfl ?_
  refine bplain (pc' := 70) rfl dX3_undo_69 rfl (ihN rfl) rfl ?_
  refine bthr (pc' := 73) rfl dX3_undo_70 rfl (lkf0 q2615 lf_272) (trivial) (ihN rfl) rfl ?_
  refine bplain (pc' := 74) rfl dX3_undo_73 rfl (ihN rfl) rfl ?_
  refine bplain (pc' := 75) rfl dX3_undo_74 rfl (ihN rfl) rfl ?_
  refine bplain (pc' := 76) rfl dX3_undo_75 rfl (ihN rfl) rfl ?_
  refine bplain (pc' := 77) rfl dX3_undo_76 rfl (ihN rfl) rfl ?_
  refine bplain (pc' := 79) rfl dX3_undo_77 rfl (ihN rfl) rfl ?_
  refine bplain (pc' := 80) rfl dX3_undo_79 rfl (ihN rfl) rfl ?_
  exact bsw rfl dX3_undo_80 (swt (by decide) (by decide) (by decide) (by decide) (by decide +kernel) (by decide +kernel)) (by decide +kernel) (ihN rfl)
theorem bf_X3_undo_116 : BOKt mt tX3_undo 157 116 b_X3_undo_116 := by
  refine bplain (pc' := 117) rfl dX3_undo_116 rfl (ihN rfl) rfl ?_
  refine bplain (pc' := 118) rfl dX3_undo_117 rfl (ihN rfl) rfl ?_
  refine bobj (pc' := 121) rfl dX3_undo_118 rfl (⟨lkf0 q2603 lf_274, lkp0 lp_276⟩) (ihN rfl) rfl ?_
  refine bjmp (tg := 210) (pc' := 124) rfl (by decide) (by decide) rfl dX3_undo_121 rfl (ihN rfl) rfl ?_
  exact trivial
theorem bf_X3_undo_124 : BOKt mt tX3_undo 157 124 b_X3_undo_124 := by
  refine bplain (pc' := 125) rfl dX3_undo_124 rfl (ihN rfl) rfl ?_
  refine bplain (pc' := 126) rfl dX3_undo_125 rfl (ihN rfl) rfl ?_
  refine bthr (pc' := 129) rfl dX3_undo_126 rfl (lkf0 q2604 lf_334) (trivial) (ihN rfl) rfl ?_
  refine bplain (pc' := 130) rfl dX3_undo_129 rfl (ihN rfl) rfl ?_
  refine bplain (pc' := 131) rfl dX3_undo_130 rfl (ihN rfl) rfl ?_
  refine bobj (pc' := 134) rfl dX3_undo_131 rfl (⟨lkf0 q2604 lf_334, lkp0 lp_335⟩) (ihN rfl) rfl ?_
  refine bjmp (tg := 210) (pc' := 137) rfl (by decide) (by decide) rfl dX3_undo_134 rfl (ihN rfl) rfl ?_
  exact trivial
theorem bf_X3_undo_137 : BOKt mt tX3_undo 157 137 b_X3_undo_137 := by
  refine bplain (pc' := 138) rfl dX3_undo_137 rfl (ihN rfl) rfl ?_
  refine bthr (pc' := 141) rfl dX3_undo_138 rfl (lkf0 q2610 lf_165) (trivial) (ihN rfl) rfl ?_
  refine bplain (pc' := 142) rfl dX3_undo_141 rfl (ihN rfl) rfl ?_
  refine bplain (pc' := 143) rfl dX3_undo_142 rfl (ihN rfl) rfl ?_
  refine bplain (pc' := 144) rfl dX3_undo_143 rfl (ihN rfl) rfl ?_
  refine bjmp (tg := 210) (pc' := 147) rfl (by decide) (by decide) rfl dX3_undo_144 rfl (ihN rfl) rfl ?_
  exact trivial
theorem bf_X3_undo_147 : BOKt mt tX3_undo 157 147 b_X3_undo_147 := by
  refine bplain (pc' := 148) rfl dX3_undo_147 rfl (ihN rfl) rfl ?_
  refine bthr (pc' := 151) rfl dX3_undo_148 rfl (lkf0 q2611 lf_167) (trivial) (ihN rfl) rfl ?_
  refine bplain (pc' := 152) rfl dX3_undo_151 rfl (ihN rfl) rfl ?_
  refine bplain (pc' := 153) rfl dX3_undo_152 rfl (ihN rfl) rfl ?_
  refine bplain (pc' := 154) rfl dX3_undo_153 rfl (ihN rfl) rfl ?_
  refine bplain (pc' := 155) rfl dX3_undo_154 rfl (ihN rfl) rfl ?_
  refine bthr (pc' := 158) rfl dX3_undo_155 rfl (lkf0 q2612 lf_169) (trivial) (ihN rfl) rfl ?_
  refine bplain (pc' := 159) rfl dX3_undo_158 rfl (ihN rfl) rfl ?_
  refine bplain (pc' := 161) rfl dX3_undo_159 rfl (ihN rfl) rfl ?_
  refine bplain (pc' := 162) rfl dX3_undo_161 rfl (ihN rfl) rfl ?_
  refine bplain (pc' := 163) rfl dX3_undo_162 rfl (ihN rfl) rfl ?_
  refine bthr (pc' := 166) rfl dX3_undo_163 rfl (lkf0 q2613 lf_171) (trivial) (ihN rfl) rfl ?_
  refine bplain (pc' := 167) rfl dX3_undo_166 rfl (ihN rfl) rfl ?_
  refine bplain (pc' := 168) rfl dX3_undo_167 rfl (ihN rfl) rfl ?_
  refine bthr (pc' := 171) rfl dX3_undo_168 rfl (lkf0 q2614 lf_173) (trivial) (ihN rfl) rfl ?_
  refine bplain (pc' := 173) rfl dX3_undo_171 rfl (ihN rfl) rfl ?_
  refine bplain (pc' := 174) rfl dX3_undo_173 rfl (ihN rfl) rfl ?_
  refine bthr (pc' := 177) rfl dX3_undo_174 rfl (lkf0 q2615 lf_272) (trivial) (ihN rfl) rfl ?_
  refine bplain (pc' := 178) rfl dX3_undo_177 rfl (ihN rfl) rfl ?_
  refine bplain (pc' := 179) rfl dX3_undo_178 rfl (ihN rfl) rfl ?_
  refine bplain (pc' := 180) rfl dX3_undo_179 rfl (ihN rfl) rfl ?_
  refine bplain (pc' := 181) rfl dX3_undo_180 rfl (ihN rfl) rfl ?_
  refine bplain (pc' := 182) rfl dX3_undo_181 rfl (ihN rfl) rfl ?_
  refine bjmp (tg := 210) (pc' := 185) rfl (by decide) (by decide) rfl dX3_undo_182 rfl (ihN rfl) rfl ?_
  exact trivial
theorem bf_X3_undo_185 : BOKt mt tX3_undo 157 185 b_X3_undo_185 := by
  refine bplain (pc' := 186) rfl dX3_undo_185 rfl (ihN rfl) rfl ?_
  refine bthr (pc' := 189) rfl dX3_undo_186 rfl (lkf0 q2607 lf_159) (trivial) (ihN rfl) rfl ?_
  refine bplain (pc' := 190) rfl dX3_undo_189 rfl (ihN rfl) rfl ?_
  refine bplain (pc' := 191) rfl dX3_undo_190 rfl (ihN rfl) rfl ?_
  refine bplain (pc' := 192) rfl dX3_undo_191 rfl (ihN rfl) rfl ?_
  refine bplain (pc' := 193) rfl dX3_undo_192 rfl (ihN rfl) rfl ?_
  refine bthr (pc' := 196) rfl dX3_undo_193 rfl (lkf0 q2608 lf_161) (trivial) (ihN rfl) rfl ?_
  refine bplain (pc' := 197) rfl dX3_undo_196 rfl (ihN rfl) rfl ?_
  refine bplain (pc' := 199) rfl dX3_undo_197 rfl (ihN rfl) rfl ?_
  refine bplain (pc' := 200) rfl dX3_undo_199 rfl (ihN rfl) rfl ?_
  refine bjmp (tg := 210) (pc' := 203) rfl (by decide) (by decide) rfl dX3_undo_200 rfl (ihN rfl) rfl ?_
  exact trivial
theorem bf_X3_undo_203 : BOKt mt tX3_undo 157 203 b_X3_undo_203 := by
  refine bplain (pc' := 204) rfl dX3_undo_203 rfl (ihN rfl) rfl ?_
  refine bthr (pc' := 207) rfl dX3_undo_204 rfl (lkf0 q2609 lf_163) (trivial) (ihN rfl) rfl ?_
  refine bplain (pc' := 208) rfl dX3_undo_207 rfl (ihN rfl) rfl ?_
  refine bplain (pc' := 209) rfl dX3_undo_208 rfl (ihN rfl) rfl ?_
  refine bplain (pc' := 210) rfl dX3_undo_209 rfl (ihN rfl) rfl ?_
  exact bnop0 rfl (by decide)
theorem bf_X3_undo_210 : BOKt mt tX3_undo 157 210 b_X3_undo_210 := by
  refine bnop1 ?_
  refine bplain (pc' := 211) rfl dX3_undo_210 rfl (ihN rfl) rfl ?_
  refine bret (pc' := 212) rfl dX3_undo_211 rfl (Or.inl ⟨rfl, rfl⟩) (ihN rfl) rfl ?_
  exact trivial
theorem tf_X3_undo : ∀ x ∈ tb_X3_undo, BOK mt 157 x.1 x.2 := tb_c mt_X3_undo bf_X3_undo_0 (tb_c mt_X3_undo bf_X3_undo_10 (tb_c mt_X3_undo bf_X3_undo_116 (tb_c mt_X3_undo bf_X3_undo_124 (tb_c mt_X3_undo bf_X3_undo_137 (tb_c mt_X3_undo bf_X3_undo_147 (tb_c mt_X3_undo bf_X3_undo_185 (tb_c mt_X3_undo bf_X3_undo_203 (tb_c mt_X3_undo bf_X3_undo_210 (tb_n)))))))))
theorem bf_X4_isNumbers_0 : BOKt mt tX4_isNumbers 158 0 b_X4_isNumbers_0 := by
  refine bplain (pc' := 1) rfl dX4_isNumbers_0 rfl (ihN rfl) rfl ?_
  refine bthr (pc' := 4) rfl dX4_isNumbers_1 rfl (lkf0 q1227 lf_211) (trivial) (ihN rfl) rfl ?_
  refine bplain (pc' := 5) rfl dX4_isNumbers_4 rfl (ihN rfl) rfl ?_
  refine bjmp (tg := 12) (pc' := 8) rfl (by decide) (by decide) rfl dX4_isNumbers_5 rfl (ihN rfl) rfl ?_
  refine bplain (pc' := 9) rfl dX4_isNumbers_8 rfl (ihN rfl) rfl ?_
  refine bjmp (tg := 13) (pc' := 12) rfl (by decide) (by decide) rfl dX4_isNumbers_9 rfl (ihN rfl) rfl ?_
  exact trivial
theorem bf_X4_isNumbers_12 : BOKt mt tX4_isNumbers 158 12 b_X4_isNumbers_12 := by
  refine bplain (pc' := 13) rfl dX4_isNumbers_12 rfl (ihN rfl) rfl ?_
  exact bnop0 rfl (by decide)
theorem bf_X4_isNumbers_13 : BOKt mt tX4_isNumbers 158 13 b_X4_isNumbers_13 := by
  refine bnop1 ?_
  refine bret (pc' := 14) rfl dX4_isNumbers_13 rfl (Or.inr ⟨rfl, rfl⟩) (ihN rfl) rfl ?_
  exact trivial
theorem tf_X4_isNumbers : ∀ x ∈ tb_X4_isNumbers, BOK mt 158 x.1 x.2 := tb_c mt_X4_isNumbers bf_X4_isNumbers_0 (tb_c mt_X4_isNumbers bf_X4_isNumbers_12 (tb_c mt_X4_isNumbers bf_X4_isNumbers_13 (tb_n)))
theorem bf_X0_numbers_0 : BOKt mt tX0_numbers 159 0 b_X0_numbers_0 := by
  refine bplain (pc' := 1) rfl dX0_numbers_0 rfl (ihN rfl) rfl ?_
  refine bthr (pc' := 4) rfl dX0_numbers_1 rfl (lkf0 q1112 lf_113) (trivial) (ihN rfl) rfl ?_
  refine bplain (pc' := 5) rfl dX0_numbers_4 rfl (ihN rfl) rfl ?_
  refine bplain (pc' := 6) rfl dX0_numbers_5 rfl (ihN rfl) rfl ?_
  refine bplain (pc' := 7) rfl dX0_numbers_6 rfl (ihN rfl) rfl ?_
  refine bplain (pc' := 8) rfl dX0_numbers_7 rfl (ihN rfl) rfl ?_
  refine bjmp (tg := 22) (pc' := 11) rfl (by decide) (by decide) rfl dX0_numbers_8 rfl (ihN rfl) rfl ?_
  refine bplain (pc' := 12) rfl dX0_numbers_11 rfl (ihN rfl) rfl ?_
  refine bcall (pc' := 15) rfl dX0_numbers_12 rfl (trivial) (lcv (n := 0) rfl (pvc (lfv mt_X4_isNumbers ⟨by decide, by decide⟩ mok_X4_isNumbers ⟨by decide, by decide⟩ ⟨q1858, ln_30, Or.inl ⟨q1857, Or.inl q1859⟩⟩) (trivial)) (Or.inl (by decide))) (ihN rfl) rfl ?_
  refine bjmp (tg := 22) (pc' := 18) rfl (by decide) (by decide) rfl dX0_numbers_15 rfl (ihN rfl) rfl ?_
  refine bplain (pc' := 19) rfl dX0_numbers_18 rfl (ihN rfl) rfl ?_
  refine bjmp (tg := 23) (pc' := 22) rfl (by decide) (by decide) rfl dX0_numbers_19 rfl (ihN rfl) rfl ?_
  exact trivial
theorem bf_X0_numbers_22 : BOKt mt tX0_numbers 159 22 b_X0_numbers_22 := by
  refine bnop1 ?_
  refine bplain (pc' := 23) rfl dX0_numbers_22 rfl (ihN rfl) rfl ?_
  exact bnop0 rfl (by decide)
theorem bf_X0_numbers_23 : BOKt mt tX0_numbers 159 23 b_X0_numbers_23 := by
  refine bnop1 ?_
  refine bret (pc' := 24) rfl dX0_numbers_23 rfl (⟨_, rfl, Or.inl ⟨_, rfl⟩⟩) (ihN rfl) rfl ?_
  exact trivial
theorem tf_X0_numbers : ∀ x ∈ tb_X0_numbers, BOK mt 159 x.1 x.2 := tb_c mt_X0_numbers bf_X0_numbers_0 (tb_c mt_X0_numbers bf_X0_numbers_22 (tb_c mt_X0_numbers bf_X0_numbers_23 (tb_n)))
theorem bf_X7_isAlike_0 : BOKt mt tX7_isAlike 160 0 b_X7_isAlike_0 := by
  refine bplain (pc' := 1) rfl dX7_isAlike_0 rfl (ihN rfl) rfl ?_
  refine bthr (pc' := 4) rfl dX7_isAlike_1 rfl (lkf0 q1666 lf_310) (trivial) (ihN rfl) rfl ?_
  refine bplain (pc' := 5) rfl dX7_isAlike_4 rfl (ihN rfl) rfl ?_
  refine bthr (pc' := 8) rfl dX7_isAlike_5 rfl (lkf0 q1666 lf_310) (trivial) (ihN rfl) rfl ?_
  refine bjmp (tg := 48) (pc' := 11) rfl (by decide) (by decide) rfl dX7_isAlike_8 rfl (ihN rfl) rfl ?_
  refine bplain (pc' := 12) rfl dX7_isAlike_11 rfl (ihN rfl) rfl ?_
  refine bthr (pc' := 15) rfl dX7_isAlike_12 rfl (lkf0 q1670 lf_343) (trivial) (ihN rfl) rfl ?_
  refine bplain (pc' := 16) rfl dX7_isAlike_15 rfl (ihN rfl) rfl ?_
  refine bthr (pc' := 19) rfl dX7_isAlike_16 rfl (lkf0 q1670 lf_343) (trivial) (ihN rfl) rfl ?_
  refine bjmp (tg := 48) (pc' := 22) rfl (by decide) (by decide) rfl dX7_isAlike_19 rfl (ihN rfl) rfl ?_
  refine bplain (pc' := 23) rfl dX7_isAlike_22 rfl (ihN rfl) rfl ?_
  refine bthr (pc' := 26) rfl dX7_isAlike_23 rfl (lkf0 q1672 lf_345) (trivial) (ihN rfl) rfl ?_
  refine bplain (pc' := 27) rfl dX7_isAlike_26 rfl (ihN rfl) rfl ?_
  refine bthr (pc' := 30) rfl dX7_isAlike_27 rfl (lkf0 q1672 lf_345) (trivial) (ihN rfl) rfl ?_
  refine bjmp (tg := 48) (pc' := 33) rfl (by decide) (by decide) rfl dX7_isAlike_30 rfl (ihN rfl) rfl ?_
  refine bplain (pc' := 34) rfl dX7_isAlike_33 rfl (ihN rfl) rfl ?_
  refine bthr (pc' := 37) rfl dX7_isAlike_34 rfl (lkf0 q1674 lf_347) (trivial) (ihN rfl) rfl ?_
  refine bplain (pc' := 38) rfl dX7_isAlike_37 rfl (ihN rfl) rfl ?_
  refine bthr (pc' := 41) rfl dX7_isAlike_38 rfl (lkf0 q1674 lf_347) (trivial) (ihN rfl) rfl ?_
  refine bjmp (tg := 48) (pc' := 44) rfl (by decide) (by decide) rfl dX7_isAlike_41 rfl (ihN rfl) rfl ?_
  refine bplain (pc' := 45) rfl dX7_isAlike_44 rfl (ihN rfl) rfl ?_
  refine bjmp (tg := 49) (pc' := 48) rfl (by decide) (by decide) rfl dX7_isAlike_45 rfl (ihN rfl) rfl ?_
  exact trivial
theorem bf_X7_isAlike_48 : BOKt mt tX7_isAlike 160 48 b_X7_isAlike_48 := by
  refine bnop1 ?_
  refine bplain (pc' := 49) rfl dX7_isAlike_48 rfl (ihN rfl) rfl ?_
  exact bnop0 rfl (by decide)
theorem bf_X7_isAlike_49 : BOKt mt tX7_isAlike 160 49 b_X7_isAlike_49 := by
  refine bnop1 ?_
  refine bret (pc' := 50) rfl dX7_isAlike_49 rfl (Or.inr ⟨rfl, rfl⟩) (ihN rfl) rfl ?_
  exact trivial
theorem tf_X7_isAlike : ∀ x ∈ tb_X7_isAlike, BOK mt 160 x.1 x.2 := tb_c mt_X7_isAlike bf_X7_isAlike_0 (tb_c mt_X7_isAlike bf_X7_isAlike_48 (tb_c mt_X7_isAlike bf_X7_isAlike_49 (tb_n)))
theorem bf_X6_gathers_0 : BOKt mt tX6_gathers 161 0 b_X6_gathers_0 := by
  refine bplain (pc' := 1) rfl dX6_gathers_0 rfl (ihN rfl) rfl ?_
  refine bplain (pc' := 2) rfl dX6_gathers_1 rfl (ihN rfl) rfl ?_
  refine bcall (pc' := 5) rfl dX6_gathers_2 rfl (trivial) (lcv (n := 1) rfl (pvc (lfv mt_X6_at ⟨by decide, by decide⟩ mok_X6_at ⟨by decide, by decide⟩ ⟨q1785, ln_342, Or.inl ⟨q1852, Or.inl q1786⟩⟩) (trivial)) (Or.inl (by decide))) (ihN rfl) rfl ?_
  refine bplain (pc' := 6) rfl dX6_gathers_5 rfl (ihN rfl) rfl ?_
  refine bplain (pc' := 7) rfl dX6_gathers_6 rfl (ihN rfl) rfl ?_
  refine bplain (pc' := 8) rfl dX6_gathers_7 rfl (ihN rfl) rfl ?_
  refine bcall (pc' := 11) rfl dX6_gathers_8 rfl (trivial) (lcv (n := 1) rfl (pvc (lfv mt_X6_at ⟨by decide, by decide⟩ mok_X6_at ⟨by decide, by decide⟩ ⟨q1785, ln_342, Or.inl ⟨q1852, Or.inl q1786⟩⟩) (trivial)) (Or.inl (by decide))) (ihN rfl) rfl ?_
  refine bplain (pc' := 12) rfl dX6_gathers_11 rfl (ihN rfl) rfl ?_
  refine bplain (pc' := 13) rfl dX6_gathers_12 rfl (ihN rfl) rfl ?_
  refine bthr (pc' := 16) rfl dX6_gathers_13 rfl (lkf0 q1694 lf_322) (trivial) (ihN rfl) rfl ?_
  refine bthr (pc' := 19) rfl dX6_gathers_16 rfl (lkf1 (host := "StrideTurns") (by decide) q254 lf_5) (trivial) (ihN rfl) rfl ?_
  refine bjmp (tg := 45) (pc' := 22) rfl (by decide) (by decide) rfl dX6_gathers_19 rfl (ihN rfl) rfl ?_
  refine bplain (pc' := 23) rfl dX6_gathers_22 rfl (ihN rfl) rfl ?_
  refine bplain (pc' := 24) rfl dX6_gathers_23 rfl (ihN rfl) rfl ?_
  refine bplain (pc' := 25) rfl dX6_gathers_24 rfl (ihN rfl) rfl ?_
  refine bcall (pc' := 28) rfl dX6_gathers_25 rfl (trivial) (lcv (n := 1) rfl (pvc (lfv mt_X6_at ⟨by decide, by decide⟩ mok_X6_at ⟨by decide, by decide⟩ ⟨q1785, ln_342, Or.inl ⟨q1852, Or.inl q1786⟩⟩) (trivial)) (Or.inl (by decide))) (ihN rfl) rfl ?_
  refine bcall (pc' := 31) rfl dX6_gathers_28 rfl (trivial) (lcv (n := 1) rfl (pvc (lfv mt_X7_isAlike ⟨by decide, by decide⟩ mok_X7_isAlike ⟨by decide, by decide⟩ ⟨q1866, ln_375, Or.inl ⟨q1865, Or.inl q1867⟩⟩) (trivial)) (Or.inl (by decide))) (ihN rfl) rfl ?_
  refine bjmp (tg := 45) (pc' := 34) rfl (by decide) (by decide) rfl dX6_gathers_31 rfl (ihN rfl) rfl ?_
  refine bplain (pc' := 35) rfl dX6_gathers_34 rfl (ihN rfl) rfl ?_
  refine bthr (pc' := 38) rfl dX6_gathers_35 rfl (lkf1 (host := "StrideTurns") (by decide) q1668 lf_310) (trivial) (ihN rfl) rfl ?_
  refine bplain (pc' := 39) rfl dX6_gathers_38 rfl (ihN rfl) rfl ?_
  refine bthr (pc' := 42) rfl dX6_gathers_39 rfl (lkf1 (host := "StrideTurns") (by decide) q1668 lf_310) (trivial) (ihN rfl) rfl ?_
  refine bjmp (tg := 47) (pc' := 45) rfl (by decide) (by decide) rfl dX6_gathers_42 rfl (ihN rfl) rfl ?_
  exact bnop0 rfl (by decide)
theorem bf_X6_gathers_45 : BOKt mt tX6_gathers 161 45 b_X6_gathers_45 := by
  refine bnop1 ?_
  refine bplain (pc' := 46) rfl dX6_gathers_45 rfl (ihN rfl) rfl ?_
  refine bret (pc' := 47) rfl dX6_gathers_46 rfl (Or.inl ⟨rfl, rfl⟩) (ihN rfl) rfl ?_
  exact trivial
theorem bf_X6_gathers_47 : BOKt mt tX6_gathers 161 47 b_X6_gathers_47 := by
  refine bplain (pc' := 48) rfl dX6_gathers_47 rfl (ihN rfl) rfl ?_
  refine bplain (pc' := 50) rfl dX6_gathers_48 rfl (ihN rfl) rfl ?_
  refine bplain (pc' := 51) rfl dX6_gathers_50 rfl (ihN rfl) rfl ?_
  refine bthr (pc' := 54) rfl dX6_gathers_51 rfl (lkf1 (host := "StrideTurns") (by decide) q1668 lf_310) (trivial) (ihN rfl) rfl ?_
  refine bplain (pc' := 55) rfl dX6_gathers_54 rfl (ihN rfl) rfl ?_
  refine bjmp (tg := 91) (pc' := 58) rfl (by decide) (by decide) rfl dX6_gathers_55 rfl (ihN rfl) rfl ?_
  refine bplain (pc' := 59) rfl dX6_gathers_58 rfl (ihN rfl) rfl ?_
  refine bthr (pc' := 62) rfl dX6_gathers_59 rfl (lkf0 q1708 lf_312) (trivial) (ihN rfl) rfl ?_
  refine bplain (pc' := 63) rfl dX6_gathers_62 rfl (ihN rfl) rfl ?_
  refine bthr (pc' := 66) rfl dX6_gathers_63 rfl (lkf1 (host := "StrideTurns") (by decide) q1668 lf_310) (trivial) (ihN rfl) rfl ?_
  refine bcall (pc' := 69) rfl dX6_gathers_66 rfl (trivial) (lcv (n := 1) rfl (pvc (lfv mt_X0_numbers ⟨by decide, by decide⟩ mok_X0_numbers ⟨by decide, by decide⟩ ⟨q1855, ln_376, Or.inr (Or.inl ⟨rfl, "StrideTurns", q1853, Or.inl qs17⟩)⟩) (trivial)) (Or.inl (by decide))) (ihN rfl) rfl ?_
  refine bjmp (tg := 74) (pc' := 72) rfl (by decide) (by decide) rfl dX6_gathers_69 rfl (ihN rfl) rfl ?_
  refine bplain (pc' := 73) rfl dX6_gathers_72 rfl (ihN rfl) rfl ?_
  refine bret (pc' := 74) rfl dX6_gathers_73 rfl (Or.inl ⟨rfl, rfl⟩) (ihN rfl) rfl ?_
  exact trivial
theorem bf_X6_gathers_74 : BOKt mt tX6_gathers 161 74 b_X6_gathers_74 := by
  refine bplain (pc' := 75) rfl dX6_gathers_74 rfl (ihN rfl) rfl ?_
  refine bthr (pc' := 78) rfl dX6_gathers_75 rfl (lkf0 q1708 lf_312) (trivial) (ihN rfl) rfl ?_
  refine bthr (pc' := 81) rfl dX6_gathers_78 rfl (lkf1 (host := "StrideTurns") (by decide) q1113 lf_113) (trivial) (ihN rfl) rfl ?_
  refine bplain (pc' := 82) rfl dX6_gathers_81 rfl (ihN rfl) rfl ?_
  refine bthr (pc' := 85) rfl dX6_gathers_82 rfl (lkf1 (host := "StrideTurns") (by decide) q1668 lf_310) (trivial) (ihN rfl) rfl ?_
  refine bplain (pc' := 86) rfl dX6_gathers_85 rfl (ihN rfl) rfl ?_
  refine bthr (pc' := 89) rfl dX6_gathers_86 rfl (lkf1 (host := "StrideTurns") (by decide) q1228 lf_211) (trivial) (ihN rfl) rfl ?_
  refine bplain (pc' := 91) rfl dX6_gathers_89 rfl (ihN rfl) rfl ?_
  exact bnop0 rfl (by decide)
theorem bf_X6_gathers_91 : BOKt mt tX6_gathers 161 91 b_X6_gathers_91 := by
  refine bnop1 ?_
  refine bplain (pc' := 92) rfl dX6_gathers_91 rfl (ihN rfl) rfl ?_
  refine bthr (pc' := 95) rfl dX6_gathers_92 rfl (lkf0 q1694 lf_322) (trivial) (ihN rfl) rfl ?_
  refine bthr (pc' := 98) rfl dX6_gathers_95 rfl (lkf1 (host := "StrideTurns") (by decide) q254 lf_5) (trivial) (ihN rfl) rfl ?_
  refine bplain (pc' := 99) rfl dX6_gathers_98 rfl (ihN rfl) rfl ?_
  refine bobj (pc' := 102) rfl dX6_gathers_99 rfl (lkq0 lc_377 q1869) (ihN rfl) rfl ?_
  refine bobj (pc' := 105) rfl dX6_gathers_102 rfl (lkq0 lc_223 q1870) (ihN rfl) rfl ?_
  refine bcall (pc' := 108) rfl dX6_gathers_105 rfl (trivial) (lcs (l := q1214) mt_X0_in ⟨by decide, by decide⟩ mok_X0_in rfl ln_210 (Or.inr ⟨"StrideTurns", q1871⟩)) (ihN rfl) rfl ?_
  refine bplain (pc' := 110) rfl dX6_gathers_108 rfl (ihN rfl) rfl ?_
  refine bplain (pc' := 111) rfl dX6_gathers_110 rfl (ihN rfl) rfl ?_
  refine bplain (pc' := 112) rfl dX6_gathers_111 rfl (ihN rfl) rfl ?_
  refine bjmp (tg := 140) (pc' := 115) rfl (by decide) (by decide) rfl dX6_gathers_112 rfl (ihN rfl) rfl ?_
  refine bplain (pc' := 117) rfl dX6_gathers_115 rfl (ihN rfl) rfl ?_
  refine bplain (pc' := 118) rfl dX6_gathers_117 rfl (ihN rfl) rfl ?_
  refine bjmp (tg := 136) (pc' := 121) rfl (by decide) (by decide) rfl dX6_gathers_118 rfl (ihN rfl) rfl ?_
  refine bplain (pc' := 123) rfl dX6_gathers_121 rfl (ihN rfl) rfl ?_
  refine bjmp (tg := 132) (pc' := 126) rfl (by decide) (by decide) rfl dX6_gathers_123 rfl (ihN rfl) rfl ?_
  refine bplain (pc' := 128) rfl dX6_gathers_126 rfl (ihN rfl) rfl ?_
  refine bplain (pc' := 129) rfl dX6_gathers_128 rfl (ihN rfl) rfl ?_
  refine bjmp (tg := 136) (pc' := 132) rfl (by decide) (by decide) rfl dX6_gathers_129 rfl (ihN rfl) rfl ?_
  exact bnop0 rfl (by decide)
theorem bf_X6_gathers_132 : BOKt mt tX6_gathers 161 132 b_X6_gathers_132 := by
  refine bnop1 ?_
  refine bplain (pc' := 133) rfl dX6_gathers_132 rfl (ihN rfl) rfl ?_
  refine bjmp (tg := 156) (pc' := 136) rfl (by decide) (by decide) rfl dX6_gathers_133 rfl (ihN rfl) rfl ?_
  exact trivial
theorem bf_X6_gathers_136 : BOKt mt tX6_gathers 161 136 b_X6_gathers_136 := by
  refine bnop1 ?_
  refine bplain (pc' := 137) rfl dX6_gathers_136 rfl (ihN rfl) rfl ?_
  refine bjmp (tg := 156) (pc' := 140) rfl (by decide) (by decide) rfl dX6_gathers_137 rfl (ihN rfl) rfl ?_
  exact trivial
theorem bf_X6_gathers_140 : BOKt mt tX6_gathers 161 140 b_X6_gathers_140 := by
  refine bplain (pc' := 142) rfl dX6_gathers_140 rfl (ihN rfl) rfl ?_
  refine bjmp (tg := 155) (pc' := 145) rfl (by decide) (by decide) rfl dX6_gathers_142 rfl (ihN rfl) rfl ?_
  refine bplain (pc' := 147) rfl dX6_gathers_145 rfl (ihN rfl) rfl ?_
  refine bplain (pc' := 148) rfl dX6_gathers_147 rfl (ihN rfl) rfl ?_
  refine bjmp (tg := 155) (pc' := 151) rfl (by decide) (by decide) rfl dX6_gathers_148 rfl (ihN rfl) rfl ?_
  refine bplain (pc' := 152) rfl dX6_gathers_151 rfl (ihN rfl) rfl ?_
  refine bjmp (tg := 156) (pc' := 155) rfl (by decide) (by decide) rfl dX6_gathers_152 rfl (ihN rfl) rfl ?_
  exact trivial
theorem bf_X6_gathers_155 : BOKt mt tX6_gathers 161 155 b_X6_gathers_155 := by
  refine bnop1 ?_
  refine bplain (pc' := 156) rfl dX6_gathers_155 rfl (ihN rfl) rfl ?_
  exact bnop0 rfl (by decide)
theorem bf_X6_gathers_156 : BOKt mt tX6_gathers 161 156 b_X6_gathers_156 := by
  refine bnop1 ?_
  refine bplain (pc' := 158) rfl dX6_gathers_156 rfl (ihN rfl) rfl ?_
  refine bplain (pc' := 160) rfl dX6_gathers_158 rfl (ihN rfl) rfl ?_
  refine bjmp (tg := 173) (pc' := 163) rfl (by decide) (by decide) rfl dX6_gathers_160 rfl (ihN rfl) rfl ?_
  refine bplain (pc' := 164) rfl dX6_gathers_163 rfl (ihN rfl) rfl ?_
  refine bthr (pc' := 167) rfl dX6_gathers_164 rfl (lkf0 q1694 lf_322) (trivial) (ihN rfl) rfl ?_
  refine bthr (pc' := 170) rfl dX6_gathers_167 rfl (lkf1 (host := "StrideTurns") (by decide) q254 lf_5) (trivial) (ihN rfl) rfl ?_
  refine bjmp (tg := 174) (pc' := 173) rfl (by decide) (by decide) rfl dX6_gathers_170 rfl (ihN rfl) rfl ?_
  exact trivial
theorem bf_X6_gathers_173 : BOKt mt tX6_gathers 161 173 b_X6_gathers_173 := by
  refine bplain (pc' := 174) rfl dX6_gathers_173 rfl (ihN rfl) rfl ?_
  exact bnop0 rfl (by decide)
theorem bf_X6_gathers_174 : BOKt mt tX6_gathers 161 174 b_X6_gathers_174 := by
  refine bnop1 ?_
  refine bret (pc' := 175) rfl dX6_gathers_174 rfl (Or.inl ⟨rfl, rfl⟩) (ihN rfl) rfl ?_
  exact trivial
theorem tf_X6_gathers : ∀ x ∈ tb_X6_gathers, BOK mt 161 x.1 x.2 := tb_c mt_X6_gathers bf_X6_gathers_0 (tb_c mt_X6_gathers bf_X6_gathers_45 (tb_c mt_X6_gathers bf_X6_gathers_47 (tb_c mt_X6_gathers bf_X6_gathers_74 (tb_c mt_X6_gathers bf_X6_gathers_91 (tb_c mt_X6_gathers bf_X6_gathers_132 (tb_c mt_X6_gathers bf_X6_gathers_136 (tb_c mt_X6_gathers bf_X6_gathers_140 (tb_c mt_X6_gathers bf_X6_gathers_155 (tb_c mt_X6_gathers bf_X6_gathers_156 (tb_c mt_X6_gathers bf_X6_gathers_173 (tb_c mt_X6_gathers bf_X6_gathers_174 (tb_n))))))))))))
theorem bf_X6_family_0 : BOKt mt tX6_family 162 0 b_X6_family_0 := by
  refine bplain (pc' := 1) rfl dX6_family_0 rfl (ihN rfl) rfl ?_
  refine bthr (pc' := 4) rfl dX6_family_1 rfl (lkf0 q1708 lf_312) (trivial) (ihN rfl) rfl ?_
  refine bplain (pc' := 5) rfl dX6_family_4 rfl (ihN rfl) rfl ?_
  refine bplain (pc' := 6) rfl dX6_family_5 rfl (ihN rfl) rfl ?_
  refine bcall (pc' := 9) rfl dX6_family_6 rfl (trivial) (lcv (n := 1) rfl (pvc (lfv mt_X6_at ⟨by decide, by decide⟩ mok_X6_at ⟨by decide, by decide⟩ ⟨q1785, ln_342, Or.inl ⟨q1852, Or.inl q1786⟩⟩) (trivial)) (Or.inl (by decide))) (ihN rfl) rfl ?_
  refine bthr (pc' := 12) rfl dX6_family_9 rfl (lkf1 (host := "StrideTurns") (by decide) q1668 lf_310) (trivial) (ihN rfl) rfl ?_
  refine bcall (pc' := 15) rfl dX6_family_12 rfl (trivial) (lcv (n := 1) rfl (pvc (lfv mt_X0_numbers ⟨by decide, by decide⟩ mok_X0_numbers ⟨by decide, by decide⟩ ⟨q1855, ln_376, Or.inr (Or.inl ⟨rfl, "StrideTurns", q1853, Or.inl qs17⟩)⟩) (trivial)) (Or.inl (by decide))) (ihN rfl) rfl ?_
  refine bplain (pc' := 16) rfl dX6_family_15 rfl (ihN rfl) rfl ?_
  refine bplain (pc' := 17) rfl dX6_family_16 rfl (ihN rfl) rfl ?_
  refine bjmp (tg := 24) (pc' := 20) rfl (by decide) (by decide) rfl dX6_family_17 rfl (ihN rfl) rfl ?_
  refine bplain (pc' := 21) rfl dX6_family_20 rfl (ihN rfl) rfl ?_
  refine bjmp (tg := 32) (pc' := 24) rfl (by decide) (by decide) rfl dX6_family_21 rfl (ihN rfl) rfl ?_
  exact trivial
theorem bf_X6_family_24 : BOKt mt tX6_family 162 24 b_X6_family_24 := by
  refine bplain (pc' := 25) rfl dX6_family_24 rfl (ihN rfl) rfl ?_
  refine bplain (pc' := 26) rfl dX6_family_25 rfl (ihN rfl) rfl ?_
  refine bthr (pc' := 29) rfl dX6_family_26 rfl (lkf1 (host := "StrideTurns") (by decide) q1228 lf_211) (trivial) (ihN rfl) rfl ?_
  refine bcall (pc' := 32) rfl dX6_family_29 rfl (trivial) (lcv (n := 1) rfl (pvc (lfv mt_X6_gathers ⟨by decide, by decide⟩ mok_X6_gathers ⟨by decide, by decide⟩ ⟨q1862, ln_225, Or.inl ⟨q1861, Or.inl q1863⟩⟩) (trivial)) (Or.inl (by decide))) (ihN rfl) rfl ?_
  exact bnop0 rfl (by decide)
theorem bf_X6_family_32 : BOKt mt tX6_family 162 32 b_X6_family_32 := by
  refine bnop1 ?_
  refine bret (pc' := 33) rfl dX6_family_32 rfl (Or.inl ⟨rfl, rfl⟩) (ihN rfl) rfl ?_
  exact trivial
theorem tf_X6_family : ∀ x ∈ tb_X6_family, BOK mt 162 x.1 x.2 := tb_c mt_X6_family bf_X6_family_0 (tb_c mt_X6_family bf_X6_family_24 (tb_c mt_X6_family bf_X6_family_32 (tb_n)))
theorem bf_X6_lambda_new_0_0 : BOKt mt tX6_lambda_new_0 163 0 b_X6_lambda_new_0_0 := by
  refine bplain (pc' := 1) rfl dX6_lambda_new_0_0 rfl (ihN rfl) rfl ?_
  refine bret (pc' := 2) rfl dX6_lambda_new_0_1 rfl (Or.inr ⟨rfl, rfl⟩) (ihN rfl) rfl ?_
  exact trivial
theorem tf_X6_lambda_new_0 : ∀ x ∈ tb_X6_lambda_new_0, BOK mt 163 x.1 x.2 := tb_c mt_X6_lambda_new_0 bf_X6_lambda_new_0_0 (tb_n)
theorem bf_X6_lambda_waits_1_0 : BOKt mt tX6_lambda_waits_1 164 0 b_X6_lambda_waits_1_0 := by
  refine bplain (pc' := 1) rfl dX6_lambda_waits_1_0 rfl (ihN rfl) rfl ?_
  refine bplain (pc' := 2) rfl dX6_lambda_waits_1_1 rfl (ihN rfl) rfl ?_
  refine bplain (pc' := 3) rfl dX6_lambda_waits_1_2 rfl (ihN rfl) rfl ?_
  refine bplain (pc' := 4) rfl dX6_lambda_waits_1_3 rfl (ihN rfl) rfl ?_
  refine bjmp (tg := 11) (pc' := 7) rfl (by decide) (by decide) rfl dX6_lambda_waits_1_4 rfl (ihN rfl) rfl ?_
  refine bplain (pc' := 8) rfl dX6_lambda_waits_1_7 rfl (ihN rfl) rfl ?_
  refine bjmp (tg := 12) (pc' := 11) rfl (by decide) (by decide) rfl dX6_lambda_waits_1_8 rfl (ihN rfl) rfl ?_
  exact trivial
theorem bf_X6_lambda_waits_1_11 : BOKt mt tX6_lambda_waits_1 164 11 b_X6_lambda_waits_1_11 := by
  refine bplain (pc' := 12) rfl dX6_lambda_waits_1_11 rfl (ihN rfl) rfl ?_
  exact bnop0 rfl (by decide)
theorem bf_X6_lambda_waits_1_12 : BOKt mt tX6_lambda_waits_1 164 12 b_X6_lambda_waits_1_12 := by
  refine bnop1 ?_
  refine bret (pc' := 13) rfl dX6_lambda_waits_1_12 rfl (Or.inr ⟨rfl, rfl⟩) (ihN rfl) rfl ?_
  exact trivial
theorem tf_X6_lambda_waits_1 : ∀ x ∈ tb_X6_lambda_waits_1, BOK mt 164 x.1 x.2 := tb_c mt_X6_lambda_waits_1 bf_X6_lambda_waits_1_0 (tb_c mt_X6_lambda_waits_1 bf_X6_lambda_waits_1_11 (tb_c mt_X6_lambda_waits_1 bf_X6_lambda_waits_1_12 (tb_n)))
theorem bf_X4_has_0 : BOKt mt tX4_has 165 0 b_X4_has_0 := by
  refine bplain (pc' := 1) rfl dX4_has_0 rfl (ihN rfl) rfl ?_
  refine bplain (pc' := 2) rfl dX4_has_1 rfl (ihN rfl) rfl ?_
  refine bplain (pc' := 3) rfl dX4_has_2 rfl (ihN rfl) rfl ?_
  refine bplain (pc' := 4) rfl dX4_has_3 rfl (ihN rfl) rfl ?_
  refine bthr (pc' := 7) rfl dX4_has_4 rfl (lkf0 q1230 lf_216) (trivial) (ihN rfl) rfl ?_
  refine bplain (pc' := 8) rfl dX4_has_7 rfl (ihN rfl) rfl ?_
  refine bplain (pc' := 9) rfl dX4_has_8 rfl (ihN rfl) rfl ?_
  refine bplain (pc' := 10) rfl dX4_has_9 rfl (ihN rfl) rfl ?_
  refine bcall (pc' := 13) rfl dX4_has_10 rfl (trivial) (lcs (l := q1214) mt_X0_in ⟨by decide, by decide⟩ mok_X0_in rfl ln_210 (Or.inr ⟨"StrideTurns", q1892⟩)) (ihN rfl) rfl ?_
  refine bret (pc' := 14) rfl dX4_has_13 rfl (Or.inr ⟨rfl, rfl⟩) (ihN rfl) rfl ?_
  exact trivial
theorem tf_X4_has : ∀ x ∈ tb_X4_has, BOK mt 165 x.1 x.2 := tb_c mt_X4_has bf_X4_has_0 (tb_n)
theorem bf_X4_isTrue_0 : BOKt mt tX4_isTrue 166 0 b_X4_isTrue_0 := by
  refine bplain (pc' := 1) rfl dX4_isTrue_0 rfl (ihN rfl) rfl ?_
  refine bthr (pc' := 4) rfl dX4_isTrue_1 rfl (lkf0 q1227 lf_211) (trivial) (ihN rfl) rfl ?_
  refine bplain (pc' := 5) rfl dX4_isTrue_4 rfl (ihN rfl) rfl ?_
  refine bjmp (tg := 32) (pc' := 8) rfl (by decide) (by decide) rfl dX4_isTrue_5 rfl (ihN rfl) rfl ?_
  refine bplain (pc' := 9) rfl dX4_isTrue_8 rfl (ihN rfl) rfl ?_
  refine bplain (pc' := 10) rfl dX4_isTrue_9 rfl (ihN rfl) rfl ?_
  refine bcall (pc' := 13) rfl dX4_isTrue_10 rfl (trivial) (lcv (n := 1) rfl (pvc (lfv mt_X4_has ⟨by decide, by decide⟩ mok_X4_has ⟨by decide, by decide⟩ ⟨q1889, ln_222, Or.inl ⟨q1888, Or.inl q1890⟩⟩) (trivial)) (Or.inl (by decide))) (ihN rfl) rfl ?_
  refine bjmp (tg := 32) (pc' := 16) rfl (by decide) (by decide) rfl dX4_isTrue_13 rfl (ihN rfl) rfl ?_
  refine bplain (pc' := 17) rfl dX4_isTrue_16 rfl (ihN rfl) rfl ?_
  refine bthr (pc' := 20) rfl dX4_isTrue_17 rfl (lkf0 q1225 lf_214) (trivial) (ihN rfl) rfl ?_
  refine bthr (pc' := 23) rfl dX4_isTrue_20 rfl (lkc (nm := "[Z") q1326 lg_235 lb_248) (Or.inl rfl) (ihN rfl) rfl ?_
  refine bplain (pc' := 24) rfl dX4_isTrue_23 rfl (ihN rfl) rfl ?_
  refine bplain (pc' := 25) rfl dX4_isTrue_24 rfl (ihN rfl) rfl ?_
  refine bjmp (tg := 32) (pc' := 28) rfl (by decide) (by decide) rfl dX4_isTrue_25 rfl (ihN rfl) rfl ?_
  refine bplain (pc' := 29) rfl dX4_isTrue_28 rfl (ihN rfl) rfl ?_
  refine bjmp (tg := 33) (pc' := 32) rfl (by decide) (by decide) rfl dX4_isTrue_29 rfl (ihN rfl) rfl ?_
  exact trivial
theorem bf_X4_isTrue_32 : BOKt mt tX4_isTrue 166 32 b_X4_isTrue_32 := by
  refine bnop1 ?_
  refine bplain (pc' := 33) rfl dX4_isTrue_32 rfl (ihN rfl) rfl ?_
  exact bnop0 rfl (by decide)
theorem bf_X4_isTrue_33 : BOKt mt tX4_isTrue 166 33 b_X4_isTrue_33 := by
  refine bnop1 ?_
  refine bret (pc' := 34) rfl dX4_isTrue_33 rfl (Or.inr ⟨rfl, rfl⟩) (ihN rfl) rfl ?_
  exact trivial
theorem tf_X4_isTrue : ∀ x ∈ tb_X4_isTrue, BOK mt 166 x.1 x.2 := tb_c mt_X4_isTrue bf_X4_isTrue_0 (tb_c mt_X4_isTrue bf_X4_isTrue_32 (tb_c mt_X4_isTrue bf_X4_isTrue_33 (tb_n)))
theorem bf_X6_isDone_0 : BOKt mt tX6_isDone 167 0 b_X6_isDone_0 := by
  refine bplain (pc' := 1) rfl dX6_isDone_0 rfl (ihN rfl) rfl ?_
  refine bthr (pc' := 4) rfl dX6_isDone_1 rfl (lkf0 q1707 lf_320) (trivial) (ihN rfl) rfl ?_
  refine bplain (pc' := 5) rfl dX6_isDone_4 rfl (ihN rfl) rfl ?_
  refine bcall (pc' := 10) rfl dX6_isDone_5 rfl (trivial) (lcl (n := 1) (j := 1) rfl q1881 ln_222 rfl (plc (lfl (q := 32) rfl ⟨by decide, by decide⟩ rfl mt_X6_lambda_new_0 ⟨by decide, by decide⟩ mok_X6_lambda_new_0 ll_380 ll_381) (plc (lfl (q := 37) rfl ⟨by decide, by decide⟩ rfl mt_X6_lambda_waits_1 ⟨by decide, by decide⟩ mok_X6_lambda_waits_1 ll_378 ll_379) (trivial)))) (ihN rfl) rfl ?_
  refine bjmp (tg := 59) (pc' := 13) rfl (by decide) (by decide) rfl dX6_isDone_10 rfl (ihN rfl) rfl ?_
  refine bplain (pc' := 14) rfl dX6_isDone_13 rfl (ihN rfl) rfl ?_
  refine bthr (pc' := 17) rfl dX6_isDone_14 rfl (lkf0 q1705 lf_318) (trivial) (ihN rfl) rfl ?_
  refine bplain (pc' := 18) rfl dX6_isDone_17 rfl (ihN rfl) rfl ?_
  refine bjmp (tg := 55) (pc' := 21) rfl (by decide) (by decide) rfl dX6_isDone_18 rfl (ihN rfl) rfl ?_
  refine bplain (pc' := 22) rfl dX6_isDone_21 rfl (ihN rfl) rfl ?_
  refine bthr (pc' := 25) rfl dX6_isDone_22 rfl (lkf0 q1708 lf_312) (trivial) (ihN rfl) rfl ?_
  refine bthr (pc' := 28) rfl dX6_isDone_25 rfl (lkf1 (host := "StrideTurns") (by decide) q1113 lf_113) (trivial) (ihN rfl) rfl ?_
  refine bplain (pc' := 29) rfl dX6_isDone_28 rfl (ihN rfl) rfl ?_
  refine bthr (pc' := 32) rfl dX6_isDone_29 rfl (lkf0 q1705 lf_318) (trivial) (ihN rfl) rfl ?_
  refine bplain (pc' := 33) rfl dX6_isDone_32 rfl (ihN rfl) rfl ?_
  refine bjmp (tg := 59) (pc' := 36) rfl (by decide) (by decide) rfl dX6_isDone_33 rfl (ihN rfl) rfl ?_
  refine bplain (pc' := 37) rfl dX6_isDone_36 rfl (ihN rfl) rfl ?_
  refine bthr (pc' := 40) rfl dX6_isDone_37 rfl (lkf0 q1708 lf_312) (trivial) (ihN rfl) rfl ?_
  refine bthr (pc' := 43) rfl dX6_isDone_40 rfl (lkf1 (host := "StrideTurns") (by decide) q1113 lf_113) (trivial) (ihN rfl) rfl ?_
  refine bplain (pc' := 44) rfl dX6_isDone_43 rfl (ihN rfl) rfl ?_
  refine bthr (pc' := 47) rfl dX6_isDone_44 rfl (lkf0 q1705 lf_318) (trivial) (ihN rfl) rfl ?_
  refine bplain (pc' := 48) rfl dX6_isDone_47 rfl (ihN rfl) rfl ?_
  refine bplain (pc' := 49) rfl dX6_isDone_48 rfl (ihN rfl) rfl ?_
  refine bcall (pc' := 52) rfl dX6_isDone_49 rfl (trivial) (lcv (n := 1) rfl (pvc (lfv mt_X4_isTrue ⟨by decide, by decide⟩ mok_X4_isTrue ⟨by decide, by decide⟩ ⟨q1885, ln_222, Or.inl ⟨q1884, Or.inl q1886⟩⟩) (trivial)) (Or.inl (by decide))) (ihN rfl) rfl ?_
  refine bjmp (tg := 59) (pc' := 55) rfl (by decide) (by decide) rfl dX6_isDone_52 rfl (ihN rfl) rfl ?_
  exact bnop0 rfl (by decide)
theorem bf_X6_isDone_55 : BOKt mt tX6_isDone 167 55 b_X6_isDone_55 := by
  refine bnop1 ?_
  refine bplain (pc' := 56) rfl dX6_isDone_55 rfl (ihN rfl) rfl ?_
  refine bjmp (tg := 60) (pc' := 59) rfl (by decide) (by decide) rfl dX6_isDone_56 rfl (ihN rfl) rfl ?_
  exact trivial
theorem bf_X6_isDone_59 : BOKt mt tX6_isDone 167 59 b_X6_isDone_59 := by
  refine bnop1 ?_
  refine bplain (pc' := 60) rfl dX6_isDone_59 rfl (ihN rfl) rfl ?_
  exact bnop0 rfl (by decide)
theorem bf_X6_isDone_60 : BOKt mt tX6_isDone 167 60 b_X6_isDone_60 := by
  refine bnop1 ?_
  refine bret (pc' := 61) rfl dX6_isDone_60 rfl (Or.inr ⟨rfl, rfl⟩) (ihN rfl) rfl ?_
  exact trivial
theorem tf_X6_isDone : ∀ x ∈ tb_X6_isDone, BOK mt 167 x.1 x.2 := tb_c mt_X6_isDone bf_X6_isDone_0 (tb_c mt_X6_isDone bf_X6_isDone_55 (tb_c mt_X6_isDone bf_X6_isDone_59 (tb_c mt_X6_isDone bf_X6_isDone_60 (tb_n))))
theorem bf_X6_doneIn_0 : BOKt mt tX6_doneIn 168 0 b_X6_doneIn_0 := by
  refine bplain (pc' := 1) rfl dX6_doneIn_0 rfl (ihN rfl) rfl ?_
  refine bplain (pc' := 2) rfl dX6_doneIn_1 rfl (ihN rfl) rfl ?_
  refine bplain (pc' := 3) rfl dX6_doneIn_2 rfl (ihN rfl) rfl ?_
  refine bplain (pc' := 4) rfl dX6_doneIn_3 rfl (ihN rfl) rfl ?_
  exact bnop0 rfl (by decide)
theorem bf_X6_doneIn_4 : BOKt mt tX6_doneIn 168 4 b_X6_doneIn_4 := by
  refine bplain (pc' := 5) rfl dX6_doneIn_4 rfl (ihN rfl) rfl ?_
  refine bplain (pc' := 6) rfl dX6_doneIn_5 rfl (ihN rfl) rfl ?_
  refine bthr (pc' := 9) rfl dX6_doneIn_6 rfl (lkf0 q1708 lf_312) (trivial) (ihN rfl) rfl ?_
  refine bthr (pc' := 12) rfl dX6_doneIn_9 rfl (lkf1 (host := "StrideTurns") (by decide) q1117 lf_270) (trivial) (ihN rfl) rfl ?_
  refine bjmp (tg := 37) (pc' := 15) rfl (by decide) (by decide) rfl dX6_doneIn_12 rfl (ihN rfl) rfl ?_
  refine bplain (pc' := 16) rfl dX6_doneIn_15 rfl (ihN rfl) rfl ?_
  refine bplain (pc' := 17) rfl dX6_doneIn_16 rfl (ihN rfl) rfl ?_
  refine bplain (pc' := 18) rfl dX6_doneIn_17 rfl (ihN rfl) rfl ?_
  refine bcall (pc' := 21) rfl dX6_doneIn_18 rfl (trivial) (lcv (n := 1) rfl (pvc (lfv mt_X6_isDone ⟨by decide, by decide⟩ mok_X6_isDone ⟨by decide, by decide⟩ ⟨q1877, ln_222, Or.inl ⟨q1876, Or.inl q1878⟩⟩) (trivial)) (Or.inl (by decide))) (ihN rfl) rfl ?_
  refine bjmp (tg := 28) (pc' := 24) rfl (by decide) (by decide) rfl dX6_doneIn_21 rfl (ihN rfl) rfl ?_
  refine bplain (pc' := 25) rfl dX6_doneIn_24 rfl (ihN rfl) rfl ?_
  refine bjmp (tg := 29) (pc' := 28) rfl (by decide) (by decide) rfl dX6_doneIn_25 rfl (ihN rfl) rfl ?_
  exact trivial
theorem bf_X6_doneIn_28 : BOKt mt tX6_doneIn 168 28 b_X6_doneIn_28 := by
  refine bplain (pc' := 29) rfl dX6_doneIn_28 rfl (ihN rfl) rfl ?_
  exact bnop0 rfl (by decide)
theorem bf_X6_doneIn_29 : BOKt mt tX6_doneIn 168 29 b_X6_doneIn_29 := by
  refine bnop1 ?_
  refine bplain (pc' := 30) rfl dX6_doneIn_29 rfl (ihN rfl) rfl ?_
  refine bplain (pc' := 31) rfl dX6_doneIn_30 rfl (ihN rfl) rfl ?_
  refine bplain (pc' := 34) rfl dX6_doneIn_31 rfl (ihN rfl) rfl ?_
  refine bjmp (tg := 4) (pc' := 37) rfl (by decide) (by decide) rfl dX6_doneIn_34 rfl (ihN rfl) rfl ?_
  exact trivial
theorem bf_X6_doneIn_37 : BOKt mt tX6_doneIn 168 37 b_X6_doneIn_37 := by
  refine bplain (pc' := 38) rfl dX6_doneIn_37 rfl (ihN rfl) rfl ?_
  refine bret (pc' := 39) rfl dX6_doneIn_38 rfl (Or.inl ⟨rfl, rfl⟩) (ihN rfl) rfl ?_
  exact trivial
theorem tf_X6_doneIn : ∀ x ∈ tb_X6_doneIn, BOK mt 168 x.1 x.2 := tb_c mt_X6_doneIn bf_X6_doneIn_0 (tb_c mt_X6_doneIn bf_X6_doneIn_4 (tb_c mt_X6_doneIn bf_X6_doneIn_28 (tb_c mt_X6_doneIn bf_X6_doneIn_29 (tb_c mt_X6_doneIn bf_X6_doneIn_37 (tb_n)))))
theorem bf_X6_tells_0 : BOKt mt tX6_tells 169 0 b_X6_tells_0 := by
  refine bplain (pc' := 1) rfl dX6_tells_0 rfl (ihN rfl) rfl ?_
  exact bsw rfl dX6_tells_1 (swt (by decide) (by decide) (by decide) (by decide) (by decide +kernel) (by decide +kernel)) (by decide +kernel) (ihN rfl)
theorem bf_X6_tells_40 : BOKt mt tX6_tells 169 40 b_X6_tells_40 := by
  refine bplain (pc' := 41) rfl dX6_tells_40 rfl (ihN rfl) rfl ?_
  refine bthr (pc' := 44) rfl dX6_tells_41 rfl (lkf0 q1694 lf_322) (trivial) (ihN rfl) rfl ?_
  refine bthr (pc' := 47) rfl dX6_tells_44 rfl (lkf1 (host := "StrideTurns") (by decide) q251 lf_3) (trivial) (ihN rfl) rfl ?_
  refine bjmp (tg := 89) (pc' := 50) rfl (by decide) (by decide) rfl dX6_tells_47 rfl (ihN rfl) rfl ?_
  exact trivial
theorem bf_X6_tells_50 : BOKt mt tX6_tells 169 50 b_X6_tells_50 := by
  refine bplain (pc' := 51) rfl dX6_tells_50 rfl (ihN rfl) rfl ?_
  refine bthr (pc' := 54) rfl dX6_tells_51 rfl (lkf0 q1697 lf_324) (trivial) (ihN rfl) rfl ?_
  refine bjmp (tg := 89) (pc' := 57) rfl (by decide) (by decide) rfl dX6_tells_54 rfl (ihN rfl) rfl ?_
  exact trivial
theorem bf_X6_tells_57 : BOKt mt tX6_tells 169 57 b_X6_tells_57 := by
  refine bplain (pc' := 58) rfl dX6_tells_57 rfl (ihN rfl) rfl ?_
  refine bthr (pc' := 61) rfl dX6_tells_58 rfl (lkf0 q1701 lf_316) (trivial) (ihN rfl) rfl ?_
  refine bjmp (tg := 89) (pc' := 64) rfl (by decide) (by decide) rfl dX6_tells_61 rfl (ihN rfl) rfl ?_
  exact trivial
theorem bf_X6_tells_64 : BOKt mt tX6_tells 169 64 b_X6_tells_64 := by
  refine bplain (pc' := 65) rfl dX6_tells_64 rfl (ihN rfl) rfl ?_
  refine bthr (pc' := 68) rfl dX6_tells_65 rfl (lkf0 q1703 lf_353) (trivial) (ihN rfl) rfl ?_
  refine bjmp (tg := 89) (pc' := 71) rfl (by decide) (by decide) rfl dX6_tells_68 rfl (ihN rfl) rfl ?_
  exact trivial
theorem bf_X6_tells_71 : BOKt mt tX6_tells 169 71 b_X6_tells_71 := by
  refine bplain (pc' := 72) rfl dX6_tells_71 rfl (ihN rfl) rfl ?_
  refine bthr (pc' := 75) rfl dX6_tells_72 rfl (lkf0 q1705 lf_318) (trivial) (ihN rfl) rfl ?_
  refine bjmp (tg := 89) (pc' := 78) rfl (by decide) (by decide) rfl dX6_tells_75 rfl (ihN rfl) rfl ?_
  exact trivial
theorem bf_X6_tells_78 : BOKt mt tX6_tells 169 78 b_X6_tells_78 := by
  refine bplain (pc' := 79) rfl dX6_tells_78 rfl (ihN rfl) rfl ?_
  refine bcall (pc' := 82) rfl dX6_tells_79 rfl (trivial) (lcv (n := 0) rfl (pvc (lfv mt_X6_family ⟨by decide, by decide⟩ mok_X6_family ⟨by decide, by decide⟩ ⟨q1849, ln_40, Or.inl ⟨q1848, Or.inl q1850⟩⟩) (trivial)) (Or.inl (by decide))) (ihN rfl) rfl ?_
  refine bjmp (tg := 89) (pc' := 85) rfl (by decide) (by decide) rfl dX6_tells_82 rfl (ihN rfl) rfl ?_
  exact trivial
theorem bf_X6_tells_85 : BOKt mt tX6_tells 169 85 b_X6_tells_85 := by
  refine bplain (pc' := 86) rfl dX6_tells_85 rfl (ihN rfl) rfl ?_
  refine bcall (pc' := 89) rfl dX6_tells_86 rfl (trivial) (lcv (n := 0) rfl (pvc (lfv mt_X6_doneIn ⟨by decide, by decide⟩ mok_X6_doneIn ⟨by decide, by decide⟩ ⟨q1873, ln_40, Or.inl ⟨q1872, Or.inl q1874⟩⟩) (trivial)) (Or.inl (by decide))) (ihN rfl) rfl ?_
  exact bnop0 rfl (by decide)
theorem bf_X6_tells_89 : BOKt mt tX6_tells 169 89 b_X6_tells_89 := by
  refine bnop1 ?_
  refine bret (pc' := 90) rfl dX6_tells_89 rfl (Or.inl ⟨rfl, rfl⟩) (ihN rfl) rfl ?_
  exact trivial
theorem tf_X6_tells : ∀ x ∈ tb_X6_tells, BOK mt 169 x.1 x.2 := tb_c mt_X6_tells bf_X6_tells_0 (tb_c mt_X6_tells bf_X6_tells_40 (tb_c mt_X6_tells bf_X6_tells_50 (tb_c mt_X6_tells bf_X6_tells_57 (tb_c mt_X6_tells bf_X6_tells_64 (tb_c mt_X6_tells bf_X6_tells_71 (tb_c mt_X6_tells bf_X6_tells_78 (tb_c mt_X6_tells bf_X6_tells_85 (tb_c mt_X6_tells bf_X6_tells_89 (tb_n)))))))))
theorem bf_X0_info_0 : BOKt mt tX0_info 170 0 b_X0_info_0 := by
  refine bplain (pc' := 1) rfl dX0_info_0 rfl (ihN rfl) rfl ?_
  refine bplain (pc' := 2) rfl dX0_info_1 rfl (ihN rfl) rfl ?_
  refine bcall (pc' := 5) rfl dX0_info_2 rfl (trivial) (lcv (n := 1) rfl (pvc (lfv mt_X0_isStatement ⟨by decide, by decide⟩ mok_X0_isStatement ⟨by decide, by decide⟩ ⟨q1773, ln_222, Or.inl ⟨q1771, Or.inl qs16⟩⟩) (trivial)) (Or.inl (by decide))) (ihN rfl) rfl ?_
  refine bjmp (tg := 38) (pc' := 8) rfl (by decide) (by decide) rfl dX0_info_5 rfl (ihN rfl) rfl ?_
  refine bplain (pc' := 9) rfl dX0_info_8 rfl (ihN rfl) rfl ?_
  refine bplain (pc' := 10) rfl dX0_info_9 rfl (ihN rfl) rfl ?_
  refine bplain (pc' := 11) rfl dX0_info_10 rfl (ihN rfl) rfl ?_
  refine bobj (pc' := 14) rfl dX0_info_11 rfl (lkq0 lc_352 q1797) (ihN rfl) rfl ?_
  refine bcall (pc' := 17) rfl dX0_info_14 rfl (trivial) (lcs (l := q1214) mt_X0_in ⟨by decide, by decide⟩ mok_X0_in rfl ln_210 (Or.inl q1213)) (ihN rfl) rfl ?_
  refine bjmp (tg := 38) (pc' := 20) rfl (by decide) (by decide) rfl dX0_info_17 rfl (ihN rfl) rfl ?_
  refine bplain (pc' := 21) rfl dX0_info_20 rfl (ihN rfl) rfl ?_
  refine bthr (pc' := 24) rfl dX0_info_21 rfl (lkf0 q1115 lf_116) (trivial) (ihN rfl) rfl ?_
  refine bplain (pc' := 25) rfl dX0_info_24 rfl (ihN rfl) rfl ?_
  refine bcall (pc' := 28) rfl dX0_info_25 rfl (trivial) (lcv (n := 1) rfl (pvc (lfv mt_J20_get ⟨by decide, by decide⟩ mok_J20_get ⟨by decide, by decide⟩ ⟨q1777, ln_338, Or.inl ⟨q1776, Or.inl q1778⟩⟩) (trivial)) (Or.inl (by decide))) (ihN rfl) rfl ?_
  refine bthr (pc' := 31) rfl dX0_info_28 rfl (lkc (nm := "StrideTurns$Statement") q1651 lg_340 lb_341) (Or.inl rfl) (ihN rfl) rfl ?_
  refine bplain (pc' := 32) rfl dX0_info_31 rfl (ihN rfl) rfl ?_
  refine bcall (pc' := 35) rfl dX0_info_32 rfl (trivial) (lcv (n := 1) rfl (pvc (lfv mt_X6_tells ⟨by decide, by decide⟩ mok_X6_tells ⟨by decide, by decide⟩ ⟨q1845, ln_225, Or.inl ⟨q1844, Or.inl q1846⟩⟩) (trivial)) (Or.inl (by decide))) (ihN rfl) rfl ?_
  refine bjmp (tg := 40) (pc' := 38) rfl (by decide) (by decide) rfl dX0_info_35 rfl (ihN rfl) rfl ?_
  exact trivial
theorem bf_X0_info_38 : BOKt mt tX0_info 170 38 b_X0_info_38 := by
  refine bnop1 ?_
  refine bplain (pc' := 40) rfl dX0_info_38 rfl (ihN rfl) rfl ?_
  exact bnop0 rfl (by decide)
theorem bf_X0_info_40 : BOKt mt tX0_info 170 40 b_X0_info_40 := by
  refine bnop1 ?_
  refine bret (pc' := 41) rfl dX0_info_40 rfl (Or.inl ⟨rfl, rfl⟩) (ihN rfl) rfl ?_
  exact trivial
theorem tf_X0_info : ∀ x ∈ tb_X0_info, BOK mt 170 x.1 x.2 := tb_c mt_X0_info bf_X0_info_0 (tb_c mt_X0_info bf_X0_info_38 (tb_c mt_X0_info bf_X0_info_40 (tb_n)))
theorem bf_X3_formAs_0 : BOKt mt tX3_formAs 171 0 b_X3_formAs_0 := by
  refine bplain (pc' := 1) rfl dX3_formAs_0 rfl (ihN rfl) rfl ?_
  refine bplain (pc' := 2) rfl dX3_formAs_1 rfl (ihN rfl) rfl ?_
  refine bjmp (tg := 9) (pc' := 5) rfl (by decide) (by decide) rfl dX3_formAs_2 rfl (ihN rfl) rfl ?_
  refine bplain (pc' := 6) rfl dX3_formAs_5 rfl (ihN rfl) rfl ?_
  refine bjmp (tg := 15) (pc' := 9) rfl (by decide) (by decide) rfl dX3_formAs_6 rfl (ihN rfl) rfl ?_
  exact trivial
theorem bf_X3_formAs_9 : BOKt mt tX3_formAs 171 9 b_X3_formAs_9 := by
  refine bplain (pc' := 10) rfl dX3_formAs_9 rfl (ihN rfl) rfl ?_
  refine bthr (pc' := 13) rfl dX3_formAs_10 rfl (lkf0 q2597 lf_145) (trivial) (ihN rfl) rfl ?_
  refine bplain (pc' := 14) rfl dX3_formAs_13 rfl (ihN rfl) rfl ?_
  refine bplain (pc' := 15) rfl dX3_formAs_14 rfl (ihN rfl) rfl ?_
  exact bnop0 rfl (by decide)
theorem bf_X3_formAs_15 : BOKt mt tX3_formAs 171 15 b_X3_formAs_15 := by
  refine bnop1 ?_
  refine bret (pc' := 16) rfl dX3_formAs_15 rfl (Or.inl ⟨rfl, rfl⟩) (ihN rfl) rfl ?_
  exact trivial
theorem tf_X3_formAs : ∀ x ∈ tb_X3_formAs, BOK mt 171 x.1 x.2 := tb_c mt_X3_formAs bf_X3_formAs_0 (tb_c mt_X3_formAs bf_X3_formAs_9 (tb_c mt_X3_formAs bf_X3_formAs_15 (tb_n)))
theorem bf_X3_isNumbers_0 : BOKt mt tX3_isNumbers 172 0 b_X3_isNumbers_0 := by
  refine bplain (pc' := 1) rfl dX3_isNumbers_0 rfl (ihN rfl) rfl ?_
  refine bplain (pc' := 2) rfl dX3_isNumbers_1 rfl (ihN rfl) rfl ?_
  refine bplain (pc' := 3) rfl dX3_isNumbers_2 rfl (ihN rfl) rfl ?_
  refine bcall (pc' := 6) rfl dX3_isNumbers_3 rfl (trivial) (lcs (l := q2747) mt_X3_in ⟨by decide, by decide⟩ mok_X3_in rfl ln_226 (Or.inl q2746)) (ihN rfl) rfl ?_
  refine bret (pc' := 7) rfl dX3_isNumbers_6 rfl (Or.inr ⟨rfl, rfl⟩) (ihN rfl) rfl ?_
  exact trivial
theorem tf_X3_isNumbers : ∀ x ∈ tb_X3_isNumbers, BOK mt 172 x.1 x.2 := tb_c mt_X3_isNumbers bf_X3_isNumbers_0 (tb_n)
theorem bf_X3_familyAs_0 : BOKt mt tX3_familyAs 173 0 b_X3_familyAs_0 := by
  refine bplain (pc' := 1) rfl dX3_familyAs_0 rfl (ihN rfl) rfl ?_
  refine bthr (pc' := 4) rfl dX3_familyAs_1 rfl (lkf0 q2610 lf_165) (trivial) (ihN rfl) rfl ?_
  refine bplain (pc' := 5) rfl dX3_familyAs_4 rfl (ihN rfl) rfl ?_
  refine bplain (pc' := 6) rfl dX3_familyAs_5 rfl (ihN rfl) rfl ?_
  refine bplain (pc' := 7) rfl dX3_familyAs_6 rfl (ihN rfl) rfl ?_
  refine bplain (pc' := 8) rfl dX3_familyAs_7 rfl (ihN rfl) rfl ?_
  refine bplain (pc' := 10) rfl dX3_familyAs_8 rfl (ihN rfl) rfl ?_
  refine bplain (pc' := 11) rfl dX3_familyAs_10 rfl (ihN rfl) rfl ?_
  refine bthr (pc' := 14) rfl dX3_familyAs_11 rfl (lkf0 q2610 lf_165) (trivial) (ihN rfl) rfl ?_
  refine bplain (pc' := 15) rfl dX3_familyAs_14 rfl (ihN rfl) rfl ?_
  refine bplain (pc' := 16) rfl dX3_familyAs_15 rfl (ihN rfl) rfl ?_
  refine bplain (pc' := 17) rfl dX3_familyAs_16 rfl (ihN rfl) rfl ?_
  refine bplain (pc' := 18) rfl dX3_familyAs_17 rfl (ihN rfl) rfl ?_
  refine bplain (pc' := 19) rfl dX3_familyAs_18 rfl (ihN rfl) rfl ?_
  refine bplain (pc' := 20) rfl dX3_familyAs_19 rfl (ihN rfl) rfl ?_
  refine bplain (pc' := 22) rfl dX3_familyAs_20 rfl (ihN rfl) rfl ?_
  refine bplain (pc' := 23) rfl dX3_familyAs_22 rfl (ihN rfl) rfl ?_
  refine bthr (pc' := 26) rfl dX3_familyAs_23 rfl (lkf0 q2610 lf_165) (trivial) (ihN rfl) rfl ?_
  refine bplain (pc' := 27) rfl dX3_familyAs_26 rfl (ihN rfl) rfl ?_
  refine bplain (pc' := 28) rfl dX3_familyAs_27 rfl (ihN rfl) rfl ?_
  refine bplain (pc' := 29) rfl dX3_familyAs_28 rfl (ihN rfl) rfl ?_
  refine bplain (pc' := 30) rfl dX3_familyAs_29 rfl (ihN rfl) rfl ?_
  refine bplain (pc' := 31) rfl dX3_familyAs_30 rfl (ihN rfl) rfl ?_
  refine bplain (pc' := 32) rfl dX3_familyAs_31 rfl (ihN rfl) rfl ?_
  refine bplain (pc' := 34) rfl dX3_familyAs_32 rfl (ihN rfl) rfl ?_
  refine bjmp (tg := 104) (pc' := 37) rfl (by decide) (by decide) rfl dX3_familyAs_34 rfl (ihN rfl) rfl ?_
  refine bplain (pc' := 38) rfl dX3_familyAs_37 rfl (ihN rfl) rfl ?_
  refine bthr (pc' := 41) rfl dX3_familyAs_38 rfl (lkf0 q2611 lf_167) (trivial) (ihN rfl) rfl ?_
  refine bplain (pc' := 42) rfl dX3_familyAs_41 rfl (ihN rfl) rfl ?_
  refine bplain (pc' := 43) rfl dX3_familyAs_42 rfl (ihN rfl) rfl ?_
  refine bplain (pc' := 44) rfl dX3_familyAs_43 rfl (ihN rfl) rfl ?_
  refine bplain (pc' := 45) rfl dX3_familyAs_44 rfl (ihN rfl) rfl ?_
  refine bplain (pc' := 46) rfl dX3_familyAs_45 rfl (ihN rfl) rfl ?_
  refine bthr (pc' := 49) rfl dX3_familyAs_46 rfl (lkf0 q2611 lf_167) (trivial) (ihN rfl) rfl ?_
  refine bplain (pc' := 50) rfl dX3_familyAs_49 rfl (ihN rfl) rfl ?_
  refine bplain (pc' := 51) rfl dX3_familyAs_50 rfl (ihN rfl) rfl ?_
  refine bplain (pc' := 52) rfl dX3_familyAs_51 rfl (ihN rfl) rfl ?_
  refine bplain (pc' := 53) rfl dX3_familyAs_52 rfl (ihN rfl) rfl ?_
  refine bplain (pc' := 54) rfl dX3_familyAs_53 rfl (ihN rfl) rfl ?_
  refine bplain (pc' := 55) rfl dX3_familyAs_54 rfl (ihN rfl) rfl ?_
  refine bjmp (tg := 104) (pc' := 58) rfl (by decide) (by decide) rfl dX3_familyAs_55 rfl (ihN rfl) rfl ?_
  refine bplain (pc' := 59) rfl dX3_familyAs_58 rfl (ihN rfl) rfl ?_
  refine bthr (pc' := 62) rfl dX3_familyAs_59 rfl (lkf0 q2612 lf_169) (trivial) (ihN rfl) rfl ?_
  refine bplain (pc' := 63) rfl dX3_familyAs_62 rfl (ihN rfl) rfl ?_
  refine bplain (pc' := 64) rfl dX3_familyAs_63 rfl (ihN rfl) rfl ?_
  refine bplain (pc' := 65) rfl dX3_familyAs_64 rfl (ihN rfl) rfl ?_
  refine bplain (pc' := 66) rfl dX3_familyAs_65 rfl (ihN rfl) rfl ?_
  refine bplain (pc' := 67) rfl dX3_familyAs_66 rfl (ihN rfl) rfl ?_
  refine bthr (pc' := 70) rfl dX3_familyAs_67 rfl (lkf0 q2612 lf_169) (trivial) (ihN rfl) rfl ?_
  refine bplain (pc' := 71) rfl dX3_familyAs_70 rfl (ihN rfl) rfl ?_
  refine bplain (pc' := 72) rfl dX3_familyAs_71 rfl (ihN rfl) rfl ?_
  refine bplain (pc' := 73) rfl dX3_familyAs_72 rfl (ihN rfl) rfl ?_
  refine bplain (pc' := 74) rfl dX3_familyAs_73 rfl (ihN rfl) rfl ?_
  refine bplain (pc' := 75) rfl dX3_familyAs_74 rfl (ihN rfl) rfl ?_
  refine bplain (pc' := 76) rfl dX3_familyAs_75 rfl (ihN rfl) rfl ?_
  refine bjmp (tg := 104) (pc' := 79) rfl (by decide) (by decide) rfl dX3_familyAs_76 rfl (ihN rfl) rfl ?_
  refine bplain (pc' := 80) rfl dX3_familyAs_79 rfl (ihN rfl) rfl ?_
  refine bthr (pc' := 83) rfl dX3_familyAs_80 rfl (lkf0 q2613 lf_171) (trivial) (ihN rfl) rfl ?_
  refine bplain (pc' := 84) rfl dX3_familyAs_83 rfl (ihN rfl) rfl ?_
  refine bplain (pc' := 85) rfl dX3_familyAs_84 rfl (ihN rfl) rfl ?_
  refine bplain (pc' := 86) rfl dX3_familyAs_85 rfl (ihN rfl) rfl ?_
  refine bplain (pc' := 87) rfl dX3_familyAs_86 rfl (ihN rfl) rfl ?_
  refine bplain (pc' := 88) rfl dX3_familyAs_87 rfl (ihN rfl) rfl ?_
  refine bthr (pc' := 91) rfl dX3_familyAs_88 rfl (lkf0 q2613 lf_171) (trivial) (ihN rfl) rfl ?_
  refine bplain (pc' := 92) rfl dX3_familyAs_91 rfl (ihN rfl) rfl ?_
  refine bplain (pc' := 93) rfl dX3_familyAs_92 rfl (ihN rfl) rfl ?_
  refine bplain (pc' := 94) rfl dX3_familyAs_93 rfl (ihN rfl) rfl ?_
  refine bplain (pc' := 95) rfl dX3_familyAs_94 rfl (ihN rfl) rfl ?_
  refine bplain (pc' := 96) rfl dX3_familyAs_95 rfl (ihN rfl) rfl ?_
  refine bplain (pc' := 97) rfl dX3_familyAs_96 rfl (ihN rfl) rfl ?_
  refine bjmp (tg := 104) (pc' := 100) rfl (by decide) (by decide) rfl dX3_familyAs_97 rfl (ihN rfl) rfl ?_
  refine bplain (pc' := 101) rfl dX3_familyAs_100 rfl (ihN rfl) rfl ?_
  refine bjmp (tg := 105) (pc' := 104) rfl (by decide) (by decide) rfl dX3_familyAs_101 rfl (ihN rfl) rfl ?_
  exact trivial
theorem bf_X3_familyAs_104 : BOKt mt tX3_familyAs 173 104 b_X3_familyAs_104 := by
  refine bnop1 ?_
  refine bplain (pc' := 105) rfl dX3_familyAs_104 rfl (ihN rfl) rfl ?_
  exact bnop0 rfl (by decide)
theorem bf_X3_familyAs_105 : BOKt mt tX3_familyAs 173 105 b_X3_familyAs_105 := by
  refine bnop1 ?_
  refine bplain (pc' := 107) rfl dX3_familyAs_105 rfl (ihN rfl) rfl ?_
  refine bplain (pc' := 108) rfl dX3_familyAs_107 rfl (ihN rfl) rfl ?_
  refine bplain (pc' := 110) rfl dX3_familyAs_108 rfl (ihN rfl) rfl ?_
  refine bplain (pc' := 111) rfl dX3_familyAs_110 rfl (ihN rfl) rfl ?_
  refine bplain (pc' := 112) rfl dX3_familyAs_111 rfl (ihN rfl) rfl ?_
  refine bcall (pc' := 115) rfl dX3_familyAs_112 rfl (trivial) (lcv (n := 3) rfl (pvc (lfv mt_X3_formAs ⟨by decide, by decide⟩ mok_X3_formAs ⟨by decide, by decide⟩ ⟨q2854, ln_255, Or.inl ⟨q2852, Or.inl qs72⟩⟩) (trivial)) (Or.inl (by decide))) (ihN rfl) rfl ?_
  refine bplain (pc' := 117) rfl dX3_familyAs_115 rfl (ihN rfl) rfl ?_
  refine bplain (pc' := 119) rfl dX3_familyAs_117 rfl (ihN rfl) rfl ?_
  refine bplain (pc' := 120) rfl dX3_familyAs_119 rfl (ihN rfl) rfl ?_
  refine bjmp (tg := 127) (pc' := 123) rfl (by decide) (by decide) rfl dX3_familyAs_120 rfl (ihN rfl) rfl ?_
  refine bplain (pc' := 124) rfl dX3_familyAs_123 rfl (ihN rfl) rfl ?_
  refine bjmp (tg := 135) (pc' := 127) rfl (by decide) (by decide) rfl dX3_familyAs_124 rfl (ihN rfl) rfl ?_
  exact trivial
theorem bf_X3_familyAs_127 : BOKt mt tX3_familyAs 173 127 b_X3_familyAs_127 := by
  refine bplain (pc' := 128) rfl dX3_familyAs_127 rfl (ihN rfl) rfl ?_
  refine bplain (pc' := 130) rfl dX3_familyAs_128 rfl (ihN rfl) rfl ?_
  refine bplain (pc' := 131) rfl dX3_familyAs_130 rfl (ihN rfl) rfl ?_
  refine bplain (pc' := 132) rfl dX3_familyAs_131 rfl (ihN rfl) rfl ?_
  refine bcall (pc' := 135) rfl dX3_familyAs_132 rfl (trivial) (lcv (n := 3) rfl (pvc (lfv mt_X3_formAs ⟨by decide, by decide⟩ mok_X3_formAs ⟨by decide, by decide⟩ ⟨q2854, ln_255, Or.inl ⟨q2852, Or.inl qs72⟩⟩) (trivial)) (Or.inl (by decide))) (ihN rfl) rfl ?_
  exact bnop0 rfl (by decide)
theorem bf_X3_familyAs_135 : BOKt mt tX3_familyAs 173 135 b_X3_familyAs_135 := by
  refine bnop1 ?_
  refine bplain (pc' := 137) rfl dX3_familyAs_135 rfl (ihN rfl) rfl ?_
  refine bplain (pc' := 139) rfl dX3_familyAs_137 rfl (ihN rfl) rfl ?_
  refine bjmp (tg := 165) (pc' := 142) rfl (by decide) (by decide) rfl dX3_familyAs_139 rfl (ihN rfl) rfl ?_
  refine bplain (pc' := 144) rfl dX3_familyAs_142 rfl (ihN rfl) rfl ?_
  refine bcall (pc' := 147) rfl dX3_familyAs_144 rfl (trivial) (lcs (l := q2857) mt_X3_isNumbers ⟨by decide, by decide⟩ mok_X3_isNumbers rfl ln_222 (Or.inl q2856)) (ihN rfl) rfl ?_
  refine bjmp (tg := 165) (pc' := 150) rfl (by decide) (by decide) rfl dX3_familyAs_147 rfl (ihN rfl) rfl ?_
  refine bplain (pc' := 152) rfl dX3_familyAs_150 rfl (ihN rfl) rfl ?_
  refine bcall (pc' := 155) rfl dX3_familyAs_152 rfl (trivial) (lcs (l := q2857) mt_X3_isNumbers ⟨by decide, by decide⟩ mok_X3_isNumbers rfl ln_222 (Or.inl q2856)) (ihN rfl) rfl ?_
  refine bjmp (tg := 165) (pc' := 158) rfl (by decide) (by decide) rfl dX3_familyAs_155 rfl (ihN rfl) rfl ?_
  refine bplain (pc' := 160) rfl dX3_familyAs_158 rfl (ihN rfl) rfl ?_
  refine bplain (pc' := 162) rfl dX3_familyAs_160 rfl (ihN rfl) rfl ?_
  refine bjmp (tg := 167) (pc' := 165) rfl (by decide) (by decide) rfl dX3_familyAs_162 rfl (ihN rfl) rfl ?_
  exact bnop0 rfl (by decide)
theorem bf_X3_familyAs_165 : BOKt mt tX3_familyAs 173 165 b_X3_familyAs_165 := by
  refine bnop1 ?_
  refine bplain (pc' := 166) rfl dX3_familyAs_165 rfl (ihN rfl) rfl ?_
  refine bret (pc' := 167) rfl dX3_familyAs_166 rfl (Or.inl ⟨rfl, rfl⟩) (ihN rfl) rfl ?_
  exact trivial
theorem bf_X3_familyAs_167 : BOKt mt tX3_familyAs 173 167 b_X3_familyAs_167 := by
  refine bplain (pc' := 168) rfl dX3_familyAs_167 rfl (ihN rfl) rfl ?_
  refine bthr (pc' := 171) rfl dX3_familyAs_168 rfl (lkf0 q2605 lf_155) (trivial) (ihN rfl) rfl ?_
  refine bplain (pc' := 172) rfl dX3_familyAs_171 rfl (ihN rfl) rfl ?_
  refine bplain (pc' := 173) rfl dX3_familyAs_172 rfl (ihN rfl) rfl ?_
  refine bplain (pc' := 175) rfl dX3_familyAs_173 rfl (ihN rfl) rfl ?_
  refine bplain (pc' := 177) rfl dX3_familyAs_175 rfl (ihN rfl) rfl ?_
  refine bplain (pc' := 178) rfl dX3_familyAs_177 rfl (ihN rfl) rfl ?_
  refine bjmp (tg := 187) (pc' := 181) rfl (by decide) (by decide) rfl dX3_familyAs_178 rfl (ihN rfl) rfl ?_
  refine bplain (pc' := 183) rfl dX3_familyAs_181 rfl (ihN rfl) rfl ?_
  refine bplain (pc' := 184) rfl dX3_familyAs_183 rfl (ihN rfl) rfl ?_
  refine bjmp (tg := 191) (pc' := 187) rfl (by decide) (by decide) rfl dX3_familyAs_184 rfl (ihN rfl) rfl ?_
  exact bnop0 rfl (by decide)
theorem bf_X3_familyAs_187 : BOKt mt tX3_familyAs 173 187 b_X3_familyAs_187 := by
  refine bnop1 ?_
  refine bplain (pc' := 188) rfl dX3_familyAs_187 rfl (ihN rfl) rfl ?_
  refine bjmp (tg := 192) (pc' := 191) rfl (by decide) (by decide) rfl dX3_familyAs_188 rfl (ihN rfl) rfl ?_
  exact trivial
theorem bf_X3_familyAs_191 : BOKt mt tX3_familyAs 173 191 b_X3_familyAs_191 := by
  refine bplain (pc' := 192) rfl dX3_familyAs_191 rfl (ihN rfl) rfl ?_
  exact bnop0 rfl (by decide)
theorem bf_X3_familyAs_192 : BOKt mt tX3_familyAs 173 192 b_X3_familyAs_192 := by
  refine bnop1 ?_
  refine bplain (pc' := 194) rfl dX3_familyAs_192 rfl (ihN rfl) rfl ?_
  refine bplain (pc' := 196) rfl dX3_familyAs_194 rfl (ihN rfl) rfl ?_
  refine bplain (pc' := 197) rfl dX3_familyAs_196 rfl (ihN rfl) rfl ?_
  refine bjmp (tg := 226) (pc' := 200) rfl (by decide) (by decide) rfl dX3_familyAs_197 rfl (ihN rfl) rfl ?_
  refine bplain (pc' := 202) rfl dX3_familyAs_200 rfl (ihN rfl) rfl ?_
  refine bjmp (tg := 224) (pc' := 205) rfl (by decide) (by decide) rfl dX3_familyAs_202 rfl (ihN rfl) rfl ?_
  refine bplain (pc' := 207) rfl dX3_familyAs_205 rfl (ihN rfl) rfl ?_
  refine bplain (pc' := 208) rfl dX3_familyAs_207 rfl (ihN rfl) rfl ?_
  refine bjmp (tg := 217) (pc' := 211) rfl (by decide) (by decide) rfl dX3_familyAs_208 rfl (ihN rfl) rfl ?_
  refine bplain (pc' := 213) rfl dX3_familyAs_211 rfl (ihN rfl) rfl ?_
  refine bplain (pc' := 214) rfl dX3_familyAs_213 rfl (ihN rfl) rfl ?_
  refine bjmp (tg := 224) (pc' := 217) rfl (by decide) (by decide) rfl dX3_familyAs_214 rfl (ihN rfl) rfl ?_
  exact bnop0 rfl (by decide)
theorem bf_X3_familyAs_217 : BOKt mt tX3_familyAs 173 217 b_X3_familyAs_217 := by
  refine bnop1 ?_
  refine bplain (pc' := 219) rfl dX3_familyAs_217 rfl (ihN rfl) rfl ?_
  refine bplain (pc' := 220) rfl dX3_familyAs_219 rfl (ihN rfl) rfl ?_
  refine bplain (pc' := 221) rfl dX3_familyAs_220 rfl (ihN rfl) rfl ?_
  refine bjmp (tg := 225) (pc' := 224) rfl (by decide) (by decide) rfl dX3_familyAs_221 rfl (ihN rfl) rfl ?_
  exact trivial
theorem bf_X3_familyAs_224 : BOKt mt tX3_familyAs 173 224 b_X3_familyAs_224 := by
  refine bnop1 ?_
  refine bplain (pc' := 225) rfl dX3_familyAs_224 rfl (ihN rfl) rfl ?_
  exact bnop0 rfl (by decide)
theorem bf_X3_familyAs_225 : BOKt mt tX3_familyAs 173 225 b_X3_familyAs_225 := by
  refine bnop1 ?_
  refine bret (pc' := 226) rfl dX3_familyAs_225 rfl (Or.inl ⟨rfl, rfl⟩) (ihN rfl) rfl ?_
  exact trivial
theorem bf_X3_familyAs_226 : BOKt mt tX3_familyAs 173 226 b_X3_familyAs_226 := by
  refine bplain (pc' := 228) rfl dX3_familyAs_226 rfl (ihN rfl) rfl ?_
  refine bplain (pc' := 229) rfl dX3_familyAs_228 rfl (ihN rfl) rfl ?_
  refine bjmp (tg := 254) (pc' := 232) rfl (by decide) (by decide) rfl dX3_familyAs_229 rfl (ihN rfl) rfl ?_
  refine bplain (pc' := 234) rfl dX3_familyAs_232 rfl (ihN rfl) rfl ?_
  refine bjmp (tg := 256) (pc' := 237) rfl (by decide) (by decide) rfl dX3_familyAs_234 rfl (ihN rfl) rfl ?_
  refine bplain (pc' := 239) rfl dX3_familyAs_237 rfl (ihN rfl) rfl ?_
  refine bjmp (tg := 256) (pc' := 242) rfl (by decide) (by decide) rfl dX3_familyAs_239 rfl (ihN rfl) rfl ?_
  refine bplain (pc' := 244) rfl dX3_familyAs_242 rfl (ihN rfl) rfl ?_
  refine bplain (pc' := 245) rfl dX3_familyAs_244 rfl (ihN rfl) rfl ?_
  refine bjmp (tg := 256) (pc' := 248) rfl (by decide) (by decide) rfl dX3_familyAs_245 rfl (ihN rfl) rfl ?_
  refine bplain (pc' := 250) rfl dX3_familyAs_248 rfl (ihN rfl) rfl ?_
  refine bplain (pc' := 251) rfl dX3_familyAs_250 rfl (ihN rfl) rfl ?_
  refine bjmp (tg := 256) (pc' := 254) rfl (by decide) (by decide) rfl dX3_familyAs_251 rfl (ihN rfl) rfl ?_
  exact bnop0 rfl (by decide)
theorem bf_X3_familyAs_254 : BOKt mt tX3_familyAs 173 254 b_X3_familyAs_254 := by
  refine bnop1 ?_
  refine bplain (pc' := 255) rfl dX3_familyAs_254 rfl (ihN rfl) rfl ?_
  refine bret (pc' := 256) rfl dX3_familyAs_255 rfl (Or.inl ⟨rfl, rfl⟩) (ihN rfl) rfl ?_
  exact trivial
theorem bf_X3_familyAs_256 : BOKt mt tX3_familyAs 173 256 b_X3_familyAs_256 := by
  refine bnop1 ?_
  refine bplain (pc' := 258) rfl dX3_familyAs_256 rfl (ihN rfl) rfl ?_
  exact bsw rfl dX3_familyAs_258 (swt (by decide) (by decide) (by decide) (by decide) (by decide +kernel) (by decide +kernel)) (by decide +kernel) (ihN rfl)
theorem bf_X3_familyAs_308 : BOKt mt tX3_familyAs 173 308 b_X3_familyAs_308 := by
  refine bnop1 ?_
  refine bplain (pc' := 309) rfl dX3_familyAs_308 rfl (ihN rfl) rfl ?_
  refine bret (pc' := 310) rfl dX3_familyAs_309 rfl (Or.inl ⟨rfl, rfl⟩) (ihN rfl) rfl ?_
  exact trivial
theorem bf_X3_familyAs_310 : BOKt mt tX3_familyAs 173 310 b_X3_familyAs_310 := by
  refine bplain (pc' := 311) rfl dX3_familyAs_310 rfl (ihN rfl) rfl ?_
  refine bret (pc' := 312) rfl dX3_familyAs_311 rfl (Or.inl ⟨rfl, rfl⟩) (ihN rfl) rfl ?_
  exact trivial
theorem bf_X3_familyAs_312 : BOKt mt tX3_familyAs 173 312 b_X3_familyAs_312 := by
  refine bnop1 ?_
  refine bplain (pc' := 314) rfl dX3_familyAs_312 rfl (ihN rfl) rfl ?_
  refine bplain (pc' := 315) rfl dX3_familyAs_314 rfl (ihN rfl) rfl ?_
  refine bplain (pc' := 316) rfl dX3_familyAs_315 rfl (ihN rfl) rfl ?_
  refine bret (pc' := 317) rfl dX3_familyAs_316 rfl (Or.inl ⟨rfl, rfl⟩) (ihN rfl) rfl ?_
  exact trivial
theorem bf_X3_familyAs_317 : BOKt mt tX3_familyAs 173 317 b_X3_familyAs_317 := by
  refine bnop1 ?_
  refine bplain (pc' := 319) rfl dX3_familyAs_317 rfl (ihN rfl) rfl ?_
  refine bplain (pc' := 320) rfl dX3_familyAs_319 rfl (ihN rfl) rfl ?_
  refine bplain (pc' := 321) rfl dX3_familyAs_320 rfl (ihN rfl) rfl ?_
  refine bret (pc' := 322) rfl dX3_familyAs_321 rfl (Or.inl ⟨rfl, rfl⟩) (ihN rfl) rfl ?_
  exact trivial
theorem bf_X3_familyAs_322 : BOKt mt tX3_familyAs 173 322 b_X3_familyAs_322 := by
  refine bnop1 ?_
  refine bplain (pc' := 323) rfl dX3_familyAs_322 rfl (ihN rfl) rfl ?_
  refine bret (pc' := 324) rfl dX3_familyAs_323 rfl (Or.inl ⟨rfl, rfl⟩) (ihN rfl) rfl ?_
  exact trivial
theorem tf_X3_familyAs : ∀ x ∈ tb_X3_familyAs, BOK mt 173 x.1 x.2 := tb_c mt_X3_familyAs bf_X3_familyAs_0 (tb_c mt_X3_familyAs bf_X3_familyAs_104 (tb_c mt_X3_familyAs bf_X3_familyAs_105 (tb_c mt_X3_familyAs bf_X3_familyAs_127 (tb_c mt_X3_familyAs bf_X3_familyAs_135 (tb_c mt_X3_familyAs bf_X3_familyAs_165 (tb_c mt_X3_familyAs bf_X3_familyAs_167 (tb_c mt_X3_familyAs bf_X3_familyAs_187 (tb_c mt_X3_familyAs bf_X3_familyAs_191 (tb_c mt_X3_familyAs bf_X3_familyAs_192 (tb_c mt_X3_familyAs bf_X3_familyAs_217 (tb_c mt_X3_familyAs bf_X3_familyAs_224 (tb_c mt_X3_familyAs bf_X3_familyAs_225 (tb_c mt_X3_familyAs bf_X3_familyAs_226 (tb_c mt_X3_familyAs bf_X3_familyAs_254 (tb_c mt_X3_familyAs bf_X3_familyAs_256 (tb_c mt_X3_familyAs bf_X3_familyAs_308 (tb_c mt_X3_familyAs bf_X3_familyAs_310 (tb_c mt_X3_familyAs bf_X3_familyAs_312 (tb_c mt_X3_familyAs bf_X3_familyAs_317 (tb_c mt_X3_familyAs bf_X3_familyAs_322 (tb_n)))))))))))))))))))))
theorem bf_X3_isDone_0 : BOKt mt tX3_isDone 174 0 b_X3_isDone_0 := by
  refine bplain (pc' := 1) rfl dX3_isDone_0 rfl (ihN rfl) rfl ?_
  refine bthr (pc' := 4) rfl dX3_isDone_1 rfl (lkf0 q2609 lf_163) (trivial) (ihN rfl) rfl ?_
  refine bplain (pc' := 5) rfl dX3_isDone_4 rfl (ihN rfl) rfl ?_
  refine bplain (pc' := 6) rfl dX3_isDone_5 rfl (ihN rfl) rfl ?_
  refine bplain (pc' := 7) rfl dX3_isDone_6 rfl (ihN rfl) rfl ?_
  refine bplain (pc' := 8) rfl dX3_isDone_7 rfl (ihN rfl) rfl ?_
  refine bplain (pc' := 9) rfl dX3_isDone_8 rfl (ihN rfl) rfl ?_
  refine bjmp (tg := 48) (pc' := 12) rfl (by decide) (by decide) rfl dX3_isDone_9 rfl (ihN rfl) rfl ?_
  refine bplain (pc' := 13) rfl dX3_isDone_12 rfl (ihN rfl) rfl ?_
  refine bthr (pc' := 16) rfl dX3_isDone_13 rfl (lkf0 q2597 lf_145) (trivial) (ihN rfl) rfl ?_
  refine bplain (pc' := 17) rfl dX3_isDone_16 rfl (ihN rfl) rfl ?_
  refine bplain (pc' := 18) rfl dX3_isDone_17 rfl (ihN rfl) rfl ?_
  refine bplain (pc' := 19) rfl dX3_isDone_18 rfl (ihN rfl) rfl ?_
  refine bjmp (tg := 52) (pc' := 22) rfl (by decide) (by decide) rfl dX3_isDone_19 rfl (ihN rfl) rfl ?_
  refine bplain (pc' := 23) rfl dX3_isDone_22 rfl (ihN rfl) rfl ?_
  refine bplain (pc' := 24) rfl dX3_isDone_23 rfl (ihN rfl) rfl ?_
  refine bthr (pc' := 27) rfl dX3_isDone_24 rfl (lkf0 q2598 lf_147) (trivial) (ihN rfl) rfl ?_
  refine bplain (pc' := 28) rfl dX3_isDone_27 rfl (ihN rfl) rfl ?_
  refine bplain (pc' := 29) rfl dX3_isDone_28 rfl (ihN rfl) rfl ?_
  refine bjmp (tg := 52) (pc' := 32) rfl (by decide) (by decide) rfl dX3_isDone_29 rfl (ihN rfl) rfl ?_
  refine bplain (pc' := 33) rfl dX3_isDone_32 rfl (ihN rfl) rfl ?_
  refine bthr (pc' := 36) rfl dX3_isDone_33 rfl (lkf0 q2599 lf_149) (trivial) (ihN rfl) rfl ?_
  refine bplain (pc' := 38) rfl dX3_isDone_36 rfl (ihN rfl) rfl ?_
  refine bplain (pc' := 39) rfl dX3_isDone_38 rfl (ihN rfl) rfl ?_
  refine bplain (pc' := 40) rfl dX3_isDone_39 rfl (ihN rfl) rfl ?_
  refine bplain (pc' := 41) rfl dX3_isDone_40 rfl (ihN rfl) rfl ?_
  refine bplain (pc' := 42) rfl dX3_isDone_41 rfl (ihN rfl) rfl ?_
  refine bplain (pc' := 43) rfl dX3_isDone_42 rfl (ihN rfl) rfl ?_
  refine bplain (pc' := 44) rfl dX3_isDone_43 rfl (ihN rfl) rfl ?_
  refine bplain (pc' := 45) rfl dX3_isDone_44 rfl (ihN rfl) rfl ?_
  refine bjmp (tg := 52) (pc' := 48) rfl (by decide) (by decide) rfl dX3_isDone_45 rfl (ihN rfl) rfl ?_
  exact bnop0 rfl (by decide)
theorem bf_X3_isDone_48 : BOKt mt tX3_isDone 174 48 b_X3_isDone_48 := by
  refine bnop1 ?_
  refine bplain (pc' := 49) rfl dX3_isDone_48 rfl (ihN rfl) rfl ?_
  refine bjmp (tg := 53) (pc' := 52) rfl (by decide) (by decide) rfl dX3_isDone_49 rfl (ihN rfl) rfl ?_
  exact trivial
theorem bf_X3_isDone_52 : BOKt mt tX3_isDone 174 52 b_X3_isDone_52 := by
  refine bnop1 ?_
  refine bplain (pc' := 53) rfl dX3_isDone_52 rfl (ihN rfl) rfl ?_
  exact bnop0 rfl (by decide)
theorem bf_X3_isDone_53 : BOKt mt tX3_isDone 174 53 b_X3_isDone_53 := by
  refine bnop1 ?_
  refine bplain (pc' := 55) rfl dX3_isDone_53 rfl (ihN rfl) rfl ?_
  refine bplain (pc' := 57) rfl dX3_isDone_55 rfl (ihN rfl) rfl ?_
  refine bjmp (tg := 81) (pc' := 60) rfl (by decide) (by decide) rfl dX3_isDone_57 rfl (ihN rfl) rfl ?_
  refine bplain (pc' := 61) rfl dX3_isDone_60 rfl (ihN rfl) rfl ?_
  refine bplain (pc' := 62) rfl dX3_isDone_61 rfl (ihN rfl) rfl ?_
  refine bthr (pc' := 65) rfl dX3_isDone_62 rfl (lkf0 q2607 lf_159) (trivial) (ihN rfl) rfl ?_
  refine bplain (pc' := 66) rfl dX3_isDone_65 rfl (ihN rfl) rfl ?_
  refine bplain (pc' := 67) rfl dX3_isDone_66 rfl (ihN rfl) rfl ?_
  refine bplain (pc' := 68) rfl dX3_isDone_67 rfl (ihN rfl) rfl ?_
  refine bplain (pc' := 69) rfl dX3_isDone_68 rfl (ihN rfl) rfl ?_
  refine bthr (pc' := 72) rfl dX3_isDone_69 rfl (lkf0 q2608 lf_161) (trivial) (ihN rfl) rfl ?_
  refine bplain (pc' := 73) rfl dX3_isDone_72 rfl (ihN rfl) rfl ?_
  refine bplain (pc' := 74) rfl dX3_isDone_73 rfl (ihN rfl) rfl ?_
  refine bjmp (tg := 81) (pc' := 77) rfl (by decide) (by decide) rfl dX3_isDone_74 rfl (ihN rfl) rfl ?_
  refine bplain (pc' := 78) rfl dX3_isDone_77 rfl (ihN rfl) rfl ?_
  refine bjmp (tg := 82) (pc' := 81) rfl (by decide) (by decide) rfl dX3_isDone_78 rfl (ihN rfl) rfl ?_
  exact trivial
theorem bf_X3_isDone_81 : BOKt mt tX3_isDone 174 81 b_X3_isDone_81 := by
  refine bnop1 ?_
  refine bplain (pc' := 82) rfl dX3_isDone_81 rfl (ihN rfl) rfl ?_
  exact bnop0 rfl (by decide)
theorem bf_X3_isDone_82 : BOKt mt tX3_isDone 174 82 b_X3_isDone_82 := by
  refine bnop1 ?_
  refine bret (pc' := 83) rfl dX3_isDone_82 rfl (Or.inr ⟨rfl, rfl⟩) (ihN rfl) rfl ?_
  exact trivial
theorem tf_X3_isDone : ∀ x ∈ tb_X3_isDone, BOK mt 174 x.1 x.2 := tb_c mt_X3_isDone bf_X3_isDone_0 (tb_c mt_X3_isDone bf_X3_isDone_48 (tb_c mt_X3_isDone bf_X3_isDone_52 (tb_c mt_X3_isDone bf_X3_isDone_53 (tb_c mt_X3_isDone bf_X3_isDone_81 (tb_c mt_X3_isDone bf_X3_isDone_82 (tb_n))))))
theorem bf_X3_doneMany_0 : BOKt mt tX3_doneMany 175 0 b_X3_doneMany_0 := by
  refine bplain (pc' := 1) rfl dX3_doneMany_0 rfl (ihN rfl) rfl ?_
  refine bplain (pc' := 2) rfl dX3_doneMany_1 rfl (ihN rfl) rfl ?_
  refine bplain (pc' := 3) rfl dX3_doneMany_2 rfl (ihN rfl) rfl ?_
  refine bplain (pc' := 4) rfl dX3_doneMany_3 rfl (ihN rfl) rfl ?_
  exact bnop0 rfl (by decide)
theorem bf_X3_doneMany_4 : BOKt mt tX3_doneMany 175 4 b_X3_doneMany_4 := by
  refine bplain (pc' := 5) rfl dX3_doneMany_4 rfl (ihN rfl) rfl ?_
  refine bplain (pc' := 6) rfl dX3_doneMany_5 rfl (ihN rfl) rfl ?_
  refine bthr (pc' := 9) rfl dX3_doneMany_6 rfl (lkf0 q2603 lf_274) (trivial) (ihN rfl) rfl ?_
  refine bjmp (tg := 35) (pc' := 12) rfl (by decide) (by decide) rfl dX3_doneMany_9 rfl (ihN rfl) rfl ?_
  refine bplain (pc' := 13) rfl dX3_doneMany_12 rfl (ihN rfl) rfl ?_
  refine bplain (pc' := 14) rfl dX3_doneMany_13 rfl (ihN rfl) rfl ?_
  refine bplain (pc' := 15) rfl dX3_doneMany_14 rfl (ihN rfl) rfl ?_
  refine bplain (pc' := 16) rfl dX3_doneMany_15 rfl (ihN rfl) rfl ?_
  refine bcall (pc' := 19) rfl dX3_doneMany_16 rfl (trivial) (lcv (n := 2) rfl (pvc (lfv mt_X3_isDone ⟨by decide, by decide⟩ mok_X3_isDone ⟨by decide, by decide⟩ ⟨q2865, ln_339, Or.inl ⟨q2863, Or.inl qs74⟩⟩) (trivial)) (Or.inl (by decide))) (ihN rfl) rfl ?_
  refine bjmp (tg := 26) (pc' := 22) rfl (by decide) (by decide) rfl dX3_doneMany_19 rfl (ihN rfl) rfl ?_
  refine bplain (pc' := 23) rfl dX3_doneMany_22 rfl (ihN rfl) rfl ?_
  refine bjmp (tg := 27) (pc' := 26) rfl (by decide) (by decide) rfl dX3_doneMany_23 rfl (ihN rfl) rfl ?_
  exact trivial
theorem bf_X3_doneMany_26 : BOKt mt tX3_doneMany 175 26 b_X3_doneMany_26 := by
  refine bplain (pc' := 27) rfl dX3_doneMany_26 rfl (ihN rfl) rfl ?_
  exact bnop0 rfl (by decide)
theorem bf_X3_doneMany_27 : BOKt mt tX3_doneMany 175 27 b_X3_doneMany_27 := by
  refine bnop1 ?_
  refine bplain (pc' := 28) rfl dX3_doneMany_27 rfl (ihN rfl) rfl ?_
  refine bplain (pc' := 29) rfl dX3_doneMany_28 rfl (ihN rfl) rfl ?_
  refine bplain (pc' := 32) rfl dX3_doneMany_29 rfl (ihN rfl) rfl ?_
  refine bjmp (tg := 4) (pc' := 35) rfl (by decide) (by decide) rfl dX3_doneMany_32 rfl (ihN rfl) rfl ?_
  exact trivial
theorem bf_X3_doneMany_35 : BOKt mt tX3_doneMany 175 35 b_X3_doneMany_35 := by
  refine bplain (pc' := 36) rfl dX3_doneMany_35 rfl (ihN rfl) rfl ?_
  refine bret (pc' := 37) rfl dX3_doneMany_36 rfl (Or.inl ⟨rfl, rfl⟩) (ihN rfl) rfl ?_
  exact trivial
theorem tf_X3_doneMany : ∀ x ∈ tb_X3_doneMany, BOK mt 175 x.1 x.2 := tb_c mt_X3_doneMany bf_X3_doneMany_0 (tb_c mt_X3_doneMany bf_X3_doneMany_4 (tb_c mt_X3_doneMany bf_X3_doneMany_26 (tb_c mt_X3_doneMany bf_X3_doneMany_27 (tb_c mt_X3_doneMany bf_X3_doneMany_35 (tb_n)))))
theorem bf_X3_infoOf_0 : BOKt mt tX3_infoOf 176 0 b_X3_infoOf_0 := by
  refine bplain (pc' := 1) rfl dX3_infoOf_0 rfl (ihN rfl) rfl ?_
  exact bsw rfl dX3_infoOf_1 (swt (by decide) (by decide) (by decide) (by decide) (by decide +kernel) (by decide +kernel)) (by decide +kernel) (ihN rfl)
theorem bf_X3_infoOf_40 : BOKt mt tX3_infoOf 176 40 b_X3_infoOf_40 := by
  refine bplain (pc' := 41) rfl dX3_infoOf_40 rfl (ihN rfl) rfl ?_
  refine bthr (pc' := 44) rfl dX3_infoOf_41 rfl (lkf0 q2605 lf_155) (trivial) (ihN rfl) rfl ?_
  refine bplain (pc' := 45) rfl dX3_infoOf_44 rfl (ihN rfl) rfl ?_
  refine bplain (pc' := 46) rfl dX3_infoOf_45 rfl (ihN rfl) rfl ?_
  refine bret (pc' := 47) rfl dX3_infoOf_46 rfl (Or.inl ⟨rfl, rfl⟩) (ihN rfl) rfl ?_
  exact trivial
theorem bf_X3_infoOf_47 : BOKt mt tX3_infoOf 176 47 b_X3_infoOf_47 := by
  refine bplain (pc' := 48) rfl dX3_infoOf_47 rfl (ihN rfl) rfl ?_
  refine bthr (pc' := 51) rfl dX3_infoOf_48 rfl (lkf0 q2606 lf_157) (trivial) (ihN rfl) rfl ?_
  refine bplain (pc' := 52) rfl dX3_infoOf_51 rfl (ihN rfl) rfl ?_
  refine bplain (pc' := 53) rfl dX3_infoOf_52 rfl (ihN rfl) rfl ?_
  refine bret (pc' := 54) rfl dX3_infoOf_53 rfl (Or.inl ⟨rfl, rfl⟩) (ihN rfl) rfl ?_
  exact trivial
theorem bf_X3_infoOf_54 : BOKt mt tX3_infoOf 176 54 b_X3_infoOf_54 := by
  refine bplain (pc' := 55) rfl dX3_infoOf_54 rfl (ihN rfl) rfl ?_
  refine bthr (pc' := 58) rfl dX3_infoOf_55 rfl (lkf0 q2607 lf_159) (trivial) (ihN rfl) rfl ?_
  refine bplain (pc' := 59) rfl dX3_infoOf_58 rfl (ihN rfl) rfl ?_
  refine bplain (pc' := 60) rfl dX3_infoOf_59 rfl (ihN rfl) rfl ?_
  refine bret (pc' := 61) rfl dX3_infoOf_60 rfl (Or.inl ⟨rfl, rfl⟩) (ihN rfl) rfl ?_
  exact trivial
theorem bf_X3_infoOf_61 : BOKt mt tX3_infoOf 176 61 b_X3_infoOf_61 := by
  refine bplain (pc' := 62) rfl dX3_infoOf_61 rfl (ihN rfl) rfl ?_
  refine bthr (pc' := 65) rfl dX3_infoOf_62 rfl (lkf0 q2608 lf_161) (trivial) (ihN rfl) rfl ?_
  refine bplain (pc' := 66) rfl dX3_infoOf_65 rfl (ihN rfl) rfl ?_
  refine bplain (pc' := 67) rfl dX3_infoOf_66 rfl (ihN rfl) rfl ?_
  refine bret (pc' := 68) rfl dX3_infoOf_67 rfl (Or.inl ⟨rfl, rfl⟩) (ihN rfl) rfl ?_
  exact trivial
theorem bf_X3_infoOf_68 : BOKt mt tX3_infoOf 176 68 b_X3_infoOf_68 := by
  refine bplain (pc' := 69) rfl dX3_infoOf_68 rfl (ihN rfl) rfl ?_
  refine bthr (pc' := 72) rfl dX3_infoOf_69 rfl (lkf0 q2609 lf_163) (trivial) (ihN rfl) rfl ?_
  refine bplain (pc' := 73) rfl dX3_infoOf_72 rfl (ihN rfl) rfl ?_
  refine bplain (pc' := 74) rfl dX3_infoOf_73 rfl (ihN rfl) rfl ?_
  refine bret (pc' := 75) rfl dX3_infoOf_74 rfl (Or.inl ⟨rfl, rfl⟩) (ihN rfl) rfl ?_
  exact trivial
theorem bf_X3_infoOf_75 : BOKt mt tX3_infoOf 176 75 b_X3_infoOf_75 := by
  refine bplain (pc' := 76) rfl dX3_infoOf_75 rfl (ihN rfl) rfl ?_
  refine bplain (pc' := 77) rfl dX3_infoOf_76 rfl (ihN rfl) rfl ?_
  refine bplain (pc' := 78) rfl dX3_infoOf_77 rfl (ihN rfl) rfl ?_
  refine bplain (pc' := 79) rfl dX3_infoOf_78 rfl (ihN rfl) rfl ?_
  refine bcall (pc' := 82) rfl dX3_infoOf_79 rfl (trivial) (lcv (n := 3) rfl (pvc (lfv mt_X3_familyAs ⟨by decide, by decide⟩ mok_X3_familyAs ⟨by decide, by decide⟩ ⟨q2850, ln_255, Or.inl ⟨q2848, Or.inl qs71⟩⟩) (trivial)) (Or.inl (by decide))) (ihN rfl) rfl ?_
  refine bret (pc' := 83) rfl dX3_infoOf_82 rfl (Or.inl ⟨rfl, rfl⟩) (ihN rfl) rfl ?_
  exact trivial
theorem bf_X3_infoOf_83 : BOKt mt tX3_infoOf 176 83 b_X3_infoOf_83 := by
  refine bplain (pc' := 84) rfl dX3_infoOf_83 rfl (ihN rfl) rfl ?_
  refine bplain (pc' := 85) rfl dX3_infoOf_84 rfl (ihN rfl) rfl ?_
  refine bcall (pc' := 88) rfl dX3_infoOf_85 rfl (trivial) (lcv (n := 1) rfl (pvc (lfv mt_X3_doneMany ⟨by decide, by decide⟩ mok_X3_doneMany ⟨by decide, by decide⟩ ⟨q2861, ln_225, Or.inl ⟨q2859, Or.inl qs73⟩⟩) (trivial)) (Or.inl (by decide))) (ihN rfl) rfl ?_
  refine bret (pc' := 89) rfl dX3_infoOf_88 rfl (Or.inl ⟨rfl, rfl⟩) (ihN rfl) rfl ?_
  exact trivial
theorem tf_X3_infoOf : ∀ x ∈ tb_X3_infoOf, BOK mt 176 x.1 x.2 := tb_c mt_X3_infoOf bf_X3_infoOf_0 (tb_c mt_X3_infoOf bf_X3_infoOf_40 (tb_c mt_X3_infoOf bf_X3_infoOf_47 (tb_c mt_X3_infoOf bf_X3_infoOf_54 (tb_c mt_X3_infoOf bf_X3_infoOf_61 (tb_c mt_X3_infoOf bf_X3_infoOf_68 (tb_c mt_X3_infoOf bf_X3_infoOf_75 (tb_c mt_X3_infoOf bf_X3_infoOf_83 (tb_n))))))))
theorem bf_X3_info_0 : BOKt mt tX3_info 177 0 b_X3_info_0 := by
  refine bplain (pc' := 1) rfl dX3_info_0 rfl (ihN rfl) rfl ?_
  refine bplain (pc' := 2) rfl dX3_info_1 rfl (ihN rfl) rfl ?_
  refine bcall (pc' := 5) rfl dX3_info_2 rfl (trivial) (lcv (n := 1) rfl (pvc (lfv mt_X3_isStatement ⟨by decide, by decide⟩ mok_X3_isStatement ⟨by decide, by decide⟩ ⟨q2822, ln_222, Or.inl ⟨q2820, Or.inl qs69⟩⟩) (trivial)) (Or.inl (by decide))) (ihN rfl) rfl ?_
  refine bjmp (tg := 27) (pc' := 8) rfl (by decide) (by decide) rfl dX3_info_5 rfl (ihN rfl) rfl ?_
  refine bplain (pc' := 9) rfl dX3_info_8 rfl (ihN rfl) rfl ?_
  refine bplain (pc' := 10) rfl dX3_info_9 rfl (ihN rfl) rfl ?_
  refine bplain (pc' := 12) rfl dX3_info_10 rfl (ihN rfl) rfl ?_
  refine bcall (pc' := 15) rfl dX3_info_12 rfl (trivial) (lcs (l := q2747) mt_X3_in ⟨by decide, by decide⟩ mok_X3_in rfl ln_226 (Or.inl q2746)) (ihN rfl) rfl ?_
  refine bjmp (tg := 27) (pc' := 18) rfl (by decide) (by decide) rfl dX3_info_15 rfl (ihN rfl) rfl ?_
  refine bplain (pc' := 19) rfl dX3_info_18 rfl (ihN rfl) rfl ?_
  refine bplain (pc' := 20) rfl dX3_info_19 rfl (ihN rfl) rfl ?_
  refine bplain (pc' := 21) rfl dX3_info_20 rfl (ihN rfl) rfl ?_
  refine bcall (pc' := 24) rfl dX3_info_21 rfl (trivial) (lcv (n := 2) rfl (pvc (lfv mt_X3_infoOf ⟨by decide, by decide⟩ mok_X3_infoOf ⟨by decide, by decide⟩ ⟨q2846, ln_252, Or.inl ⟨q2844, Or.inl qs70⟩⟩) (trivial)) (Or.inl (by decide))) (ihN rfl) rfl ?_
  refine bjmp (tg := 29) (pc' := 27) rfl (by decide) (by decide) rfl dX3_info_24 rfl (ihN rfl) rfl ?_
  exact trivial
theorem bf_X3_info_27 : BOKt mt tX3_info 177 27 b_X3_info_27 := by
  refine bnop1 ?_
  refine bplain (pc' := 29) rfl dX3_info_27 rfl (ihN rfl) rfl ?_
  exact bnop0 rfl (by decide)
theorem bf_X3_info_29 : BOKt mt tX3_info 177 29 b_X3_info_29 := by
  refine bnop1 ?_
  refine bret (pc' := 30) rfl dX3_info_29 rfl (Or.inl ⟨rfl, rfl⟩) (ihN rfl) rfl ?_
  exact trivial
theorem tf_X3_info : ∀ x ∈ tb_X3_info, BOK mt 177 x.1 x.2 := tb_c mt_X3_info bf_X3_info_0 (tb_c mt_X3_info bf_X3_info_27 (tb_c mt_X3_info bf_X3_info_29 (tb_n)))
theorem bf_X7_tells_0 : BOKt mt tX7_tells 178 0 b_X7_tells_0 := by
  refine bplain (pc' := 1) rfl dX7_tells_0 rfl (ihN rfl) rfl ?_
  exact bsw rfl dX7_tells_1 (swt (by decide) (by decide) (by decide) (by decide) (by decide +kernel) (by decide +kernel)) (by decide +kernel) (ihN rfl)
theorem bf_X7_tells_28 : BOKt mt tX7_tells 178 28 b_X7_tells_28 := by
  refine bplain (pc' := 29) rfl dX7_tells_28 rfl (ihN rfl) rfl ?_
  refine bthr (pc' := 32) rfl dX7_tells_29 rfl (lkf0 q1666 lf_310) (trivial) (ihN rfl) rfl ?_
  refine bjmp (tg := 53) (pc' := 35) rfl (by decide) (by decide) rfl dX7_tells_32 rfl (ihN rfl) rfl ?_
  exact trivial
theorem bf_X7_tells_35 : BOKt mt tX7_tells 178 35 b_X7_tells_35 := by
  refine bplain (pc' := 36) rfl dX7_tells_35 rfl (ihN rfl) rfl ?_
  refine bthr (pc' := 39) rfl dX7_tells_36 rfl (lkf0 q1670 lf_343) (trivial) (ihN rfl) rfl ?_
  refine bjmp (tg := 53) (pc' := 42) rfl (by decide) (by decide) rfl dX7_tells_39 rfl (ihN rfl) rfl ?_
  exact trivial
theorem bf_X7_tells_42 : BOKt mt tX7_tells 178 42 b_X7_tells_42 := by
  refine bplain (pc' := 43) rfl dX7_tells_42 rfl (ihN rfl) rfl ?_
  refine bthr (pc' := 46) rfl dX7_tells_43 rfl (lkf0 q1672 lf_345) (trivial) (ihN rfl) rfl ?_
  refine bjmp (tg := 53) (pc' := 49) rfl (by decide) (by decide) rfl dX7_tells_46 rfl (ihN rfl) rfl ?_
  exact trivial
theorem bf_X7_tells_49 : BOKt mt tX7_tells 178 49 b_X7_tells_49 := by
  refine bplain (pc' := 50) rfl dX7_tells_49 rfl (ihN rfl) rfl ?_
  refine bthr (pc' := 53) rfl dX7_tells_50 rfl (lkf0 q1674 lf_347) (trivial) (ihN rfl) rfl ?_
  exact bnop0 rfl (by decide)
theorem bf_X7_tells_53 : BOKt mt tX7_tells 178 53 b_X7_tells_53 := by
  refine bnop1 ?_
  refine bret (pc' := 54) rfl dX7_tells_53 rfl (Or.inl ⟨rfl, rfl⟩) (ihN rfl) rfl ?_
  exact trivial
theorem tf_X7_tells : ∀ x ∈ tb_X7_tells, BOK mt 178 x.1 x.2 := tb_c mt_X7_tells bf_X7_tells_0 (tb_c mt_X7_tells bf_X7_tells_28 (tb_c mt_X7_tells bf_X7_tells_35 (tb_c mt_X7_tells bf_X7_tells_42 (tb_c mt_X7_tells bf_X7_tells_49 (tb_c mt_X7_tells bf_X7_tells_53 (tb_n))))))
theorem bf_X0_reference_0 : BOKt mt tX0_reference 179 0 b_X0_reference_0 := by
  refine bplain (pc' := 1) rfl dX0_reference_0 rfl (ihN rfl) rfl ?_
  refine bplain (pc' := 2) rfl dX0_reference_1 rfl (ihN rfl) rfl ?_
  refine bplain (pc' := 3) rfl dX0_reference_2 rfl (ihN rfl) rfl ?_
  refine bcall (pc' := 6) rfl dX0_reference_3 rfl (trivial) (lcv (n := 2) rfl (pvc (lfv mt_X0_isReference ⟨by decide, by decide⟩ mok_X0_isReference ⟨by decide, by decide⟩ ⟨q1769, ln_339, Or.inl ⟨q1767, Or.inl qs15⟩⟩) (trivial)) (Or.inl (by decide))) (ihN rfl) rfl ?_
  refine bjmp (tg := 43) (pc' := 9) rfl (by decide) (by decide) rfl dX0_reference_6 rfl (ihN rfl) rfl ?_
  refine bplain (pc' := 10) rfl dX0_reference_9 rfl (ihN rfl) rfl ?_
  refine bplain (pc' := 11) rfl dX0_reference_10 rfl (ihN rfl) rfl ?_
  refine bplain (pc' := 12) rfl dX0_reference_11 rfl (ihN rfl) rfl ?_
  refine bobj (pc' := 15) rfl dX0_reference_12 rfl (lkq0 lc_377 q1897) (ihN rfl) rfl ?_
  refine bcall (pc' := 18) rfl dX0_reference_15 rfl (trivial) (lcs (l := q1214) mt_X0_in ⟨by decide, by decide⟩ mok_X0_in rfl ln_210 (Or.inl q1213)) (ihN rfl) rfl ?_
  refine bjmp (tg := 43) (pc' := 21) rfl (by decide) (by decide) rfl dX0_reference_18 rfl (ihN rfl) rfl ?_
  refine bplain (pc' := 22) rfl dX0_reference_21 rfl (ihN rfl) rfl ?_
  refine bthr (pc' := 25) rfl dX0_reference_22 rfl (lkf0 q1115 lf_116) (trivial) (ihN rfl) rfl ?_
  refine bplain (pc' := 26) rfl dX0_reference_25 rfl (ihN rfl) rfl ?_
  refine bcall (pc' := 29) rfl dX0_reference_26 rfl (trivial) (lcv (n := 1) rfl (pvc (lfv mt_J20_get ⟨by decide, by decide⟩ mok_J20_get ⟨by decide, by decide⟩ ⟨q1777, ln_338, Or.inl ⟨q1776, Or.inl q1778⟩⟩) (trivial)) (Or.inl (by decide))) (ihN rfl) rfl ?_
  refine bthr (pc' := 32) rfl dX0_reference_29 rfl (lkc (nm := "StrideTurns$Statement") q1651 lg_340 lb_341) (Or.inl rfl) (ihN rfl) rfl ?_
  refine bplain (pc' := 33) rfl dX0_reference_32 rfl (ihN rfl) rfl ?_
  refine bcall (pc' := 36) rfl dX0_reference_33 rfl (trivial) (lcv (n := 1) rfl (pvc (lfv mt_X6_at ⟨by decide, by decide⟩ mok_X6_at ⟨by decide, by decide⟩ ⟨q1785, ln_342, Or.inl ⟨q1784, Or.inl q1786⟩⟩) (trivial)) (Or.inl (by decide))) (ihN rfl) rfl ?_
  refine bplain (pc' := 37) rfl dX0_reference_36 rfl (ihN rfl) rfl ?_
  refine bcall (pc' := 40) rfl dX0_reference_37 rfl (trivial) (lcv (n := 1) rfl (pvc (lfv mt_X7_tells ⟨by decide, by decide⟩ mok_X7_tells ⟨by decide, by decide⟩ ⟨q1899, ln_225, Or.inl ⟨q1898, Or.inl q1900⟩⟩) (trivial)) (Or.inl (by decide))) (ihN rfl) rfl ?_
  refine bjmp (tg := 46) (pc' := 43) rfl (by decide) (by decide) rfl dX0_reference_40 rfl (ihN rfl) rfl ?_
  exact trivial
theorem bf_X0_reference_43 : BOKt mt tX0_reference 179 43 b_X0_reference_43 := by
  refine bnop1 ?_
  refine bobj (pc' := 46) rfl dX0_reference_43 rfl (lkl0 lc_251 q1902) (ihN rfl) rfl ?_
  exact bnop0 rfl (by decide)
theorem bf_X0_reference_46 : BOKt mt tX0_reference 179 46 b_X0_reference_46 := by
  refine bnop1 ?_
  refine bret (pc' := 47) rfl dX0_reference_46 rfl (Or.inl ⟨rfl, rfl⟩) (ihN rfl) rfl ?_
  exact trivial
theorem tf_X0_reference : ∀ x ∈ tb_X0_reference, BOK mt 179 x.1 x.2 := tb_c mt_X0_reference bf_X0_reference_0 (tb_c mt_X0_reference bf_X0_reference_43 (tb_c mt_X0_reference bf_X0_reference_46 (tb_n)))
theorem bf_X3_referenceOf_0 : BOKt mt tX3_referenceOf 180 0 b_X3_referenceOf_0 := by
  refine bplain (pc' := 1) rfl dX3_referenceOf_0 rfl (ihN rfl) rfl ?_
  refine bjmp (tg := 13) (pc' := 4) rfl (by decide) (by decide) rfl dX3_referenceOf_1 rfl (ihN rfl) rfl ?_
  refine bplain (pc' := 5) rfl dX3_referenceOf_4 rfl (ihN rfl) rfl ?_
  refine bthr (pc' := 8) rfl dX3_referenceOf_5 rfl (lkf0 q2610 lf_165) (trivial) (ihN rfl) rfl ?_
  refine bplain (pc' := 9) rfl dX3_referenceOf_8 rfl (ihN rfl) rfl ?_
  refine bplain (pc' := 10) rfl dX3_referenceOf_9 rfl (ihN rfl) rfl ?_
  refine bjmp (tg := 47) (pc' := 13) rfl (by decide) (by decide) rfl dX3_referenceOf_10 rfl (ihN rfl) rfl ?_
  exact trivial
theorem bf_X3_referenceOf_13 : BOKt mt tX3_referenceOf 180 13 b_X3_referenceOf_13 := by
  refine bplain (pc' := 14) rfl dX3_referenceOf_13 rfl (ihN rfl) rfl ?_
  refine bplain (pc' := 15) rfl dX3_referenceOf_14 rfl (ihN rfl) rfl ?_
  refine bjmp (tg := 27) (pc' := 18) rfl (by decide) (by decide) rfl dX3_referenceOf_15 rfl (ihN rfl) rfl ?_
  refine bplain (pc' := 19) rfl dX3_referenceOf_18 rfl (ihN rfl) rfl ?_
  refine bthr (pc' := 22) rfl dX3_referenceOf_19 rfl (lkf0 q2611 lf_167) (trivial) (ihN rfl) rfl ?_
  refine bplain (pc' := 23) rfl dX3_referenceOf_22 rfl (ihN rfl) rfl ?_
  refine bplain (pc' := 24) rfl dX3_referenceOf_23 rfl (ihN rfl) rfl ?_
  refine bjmp (tg := 47) (pc' := 27) rfl (by decide) (by decide) rfl dX3_referenceOf_24 rfl (ihN rfl) rfl ?_
  exact trivial
theorem bf_X3_referenceOf_27 : BOKt mt tX3_referenceOf 180 27 b_X3_referenceOf_27 := by
  refine bplain (pc' := 28) rfl dX3_referenceOf_27 rfl (ihN rfl) rfl ?_
  refine bplain (pc' := 29) rfl dX3_referenceOf_28 rfl (ihN rfl) rfl ?_
  refine bjmp (tg := 41) (pc' := 32) rfl (by decide) (by decide) rfl dX3_referenceOf_29 rfl (ihN rfl) rfl ?_
  refine bplain (pc' := 33) rfl dX3_referenceOf_32 rfl (ihN rfl) rfl ?_
  refine bthr (pc' := 36) rfl dX3_referenceOf_33 rfl (lkf0 q2612 lf_169) (trivial) (ihN rfl) rfl ?_
  refine bplain (pc' := 37) rfl dX3_referenceOf_36 rfl (ihN rfl) rfl ?_
  refine bplain (pc' := 38) rfl dX3_referenceOf_37 rfl (ihN rfl) rfl ?_
  refine bjmp (tg := 47) (pc' := 41) rfl (by decide) (by decide) rfl dX3_referenceOf_38 rfl (ihN rfl) rfl ?_
  exact trivial
theorem bf_X3_referenceOf_41 : BOKt mt tX3_referenceOf 180 41 b_X3_referenceOf_41 := by
  refine bplain (pc' := 42) rfl dX3_referenceOf_41 rfl (ihN rfl) rfl ?_
  refine bthr (pc' := 45) rfl dX3_referenceOf_42 rfl (lkf0 q2613 lf_171) (trivial) (ihN rfl) rfl ?_
  refine bplain (pc' := 46) rfl dX3_referenceOf_45 rfl (ihN rfl) rfl ?_
  refine bplain (pc' := 47) rfl dX3_referenceOf_46 rfl (ihN rfl) rfl ?_
  exact bnop0 rfl (by decide)
theorem bf_X3_referenceOf_47 : BOKt mt tX3_referenceOf 180 47 b_X3_referenceOf_47 := by
  refine bnop1 ?_
  refine bret (pc' := 48) rfl dX3_referenceOf_47 rfl (Or.inl ⟨rfl, rfl⟩) (ihN rfl) rfl ?_
  exact trivial
theorem tf_X3_referenceOf : ∀ x ∈ tb_X3_referenceOf, BOK mt 180 x.1 x.2 := tb_c mt_X3_referenceOf bf_X3_referenceOf_0 (tb_c mt_X3_referenceOf bf_X3_referenceOf_13 (tb_c mt_X3_referenceOf bf_X3_referenceOf_27 (tb_c mt_X3_referenceOf bf_X3_referenceOf_41 (tb_c mt_X3_referenceOf bf_X3_referenceOf_47 (tb_n)))))
theorem bf_X3_reference_0 : BOKt mt tX3_reference 181 0 b_X3_reference_0 := by
  refine bplain (pc' := 1) rfl dX3_reference_0 rfl (ihN rfl) rfl ?_
  refine bplain (pc' := 2) rfl dX3_reference_1 rfl (ihN rfl) rfl ?_
  refine bcall (pc' := 5) rfl dX3_reference_2 rfl (trivial) (lcv (n := 1) rfl (pvc (lfv mt_X3_isStatement ⟨by decide, by decide⟩ mok_X3_isStatement ⟨by decide, by decide⟩ ⟨q2822, ln_222, Or.inl ⟨q2820, Or.inl qs69⟩⟩) (trivial)) (Or.inl (by decide))) (ihN rfl) rfl ?_
  refine bjmp (tg := 39) (pc' := 8) rfl (by decide) (by decide) rfl dX3_reference_5 rfl (ihN rfl) rfl ?_
  refine bplain (pc' := 9) rfl dX3_reference_8 rfl (ihN rfl) rfl ?_
  refine bplain (pc' := 10) rfl dX3_reference_9 rfl (ihN rfl) rfl ?_
  refine bplain (pc' := 11) rfl dX3_reference_10 rfl (ihN rfl) rfl ?_
  refine bcall (pc' := 14) rfl dX3_reference_11 rfl (trivial) (lcs (l := q2747) mt_X3_in ⟨by decide, by decide⟩ mok_X3_in rfl ln_226 (Or.inl q2746)) (ihN rfl) rfl ?_
  refine bjmp (tg := 39) (pc' := 17) rfl (by decide) (by decide) rfl dX3_reference_14 rfl (ihN rfl) rfl ?_
  refine bplain (pc' := 18) rfl dX3_reference_17 rfl (ihN rfl) rfl ?_
  refine bplain (pc' := 19) rfl dX3_reference_18 rfl (ihN rfl) rfl ?_
  refine bplain (pc' := 20) rfl dX3_reference_19 rfl (ihN rfl) rfl ?_
  refine bcall (pc' := 23) rfl dX3_reference_20 rfl (trivial) (lcs (l := q2747) mt_X3_in ⟨by decide, by decide⟩ mok_X3_in rfl ln_226 (Or.inl q2746)) (ihN rfl) rfl ?_
  refine bjmp (tg := 39) (pc' := 26) rfl (by decide) (by decide) rfl dX3_reference_23 rfl (ihN rfl) rfl ?_
  refine bplain (pc' := 27) rfl dX3_reference_26 rfl (ihN rfl) rfl ?_
  refine bplain (pc' := 28) rfl dX3_reference_27 rfl (ihN rfl) rfl ?_
  refine bplain (pc' := 29) rfl dX3_reference_28 rfl (ihN rfl) rfl ?_
  refine bplain (pc' := 30) rfl dX3_reference_29 rfl (ihN rfl) rfl ?_
  refine bplain (pc' := 31) rfl dX3_reference_30 rfl (ihN rfl) rfl ?_
  refine bplain (pc' := 32) rfl dX3_reference_31 rfl (ihN rfl) rfl ?_
  refine bplain (pc' := 33) rfl dX3_reference_32 rfl (ihN rfl) rfl ?_
  refine bcall (pc' := 36) rfl dX3_reference_33 rfl (trivial) (lcv (n := 2) rfl (pvc (lfv mt_X3_referenceOf ⟨by decide, by decide⟩ mok_X3_referenceOf ⟨by decide, by decide⟩ ⟨q2873, ln_252, Or.inl ⟨q2871, Or.inl qs75⟩⟩) (trivial)) (Or.inl (by decide))) (ihN rfl) rfl ?_
  refine bjmp (tg := 41) (pc' := 39) rfl (by decide) (by decide) rfl dX3_reference_36 rfl (ihN rfl) rfl ?_
  exact trivial
theorem bf_X3_reference_39 : BOKt mt tX3_reference 181 39 b_X3_reference_39 := by
  refine bnop1 ?_
  refine bobj (pc' := 41) rfl dX3_reference_39 rfl (lkl0 lc_251 q2783) (ihN rfl) rfl ?_
  exact bnop0 rfl (by decide)
theorem bf_X3_reference_41 : BOKt mt tX3_reference 181 41 b_X3_reference_41 := by
  refine bnop1 ?_
  refine bret (pc' := 42) rfl dX3_reference_41 rfl (Or.inl ⟨rfl, rfl⟩) (ihN rfl) rfl ?_
  exact trivial
theorem tf_X3_reference : ∀ x ∈ tb_X3_reference, BOK mt 181 x.1 x.2 := tb_c mt_X3_reference bf_X3_reference_0 (tb_c mt_X3_reference bf_X3_reference_39 (tb_c mt_X3_reference bf_X3_reference_41 (tb_n)))
theorem bf_X0_referenceAt_0 : BOKt mt tX0_referenceAt 182 0 b_X0_referenceAt_0 := by
  refine bplain (pc' := 1) rfl dX0_referenceAt_0 rfl (ihN rfl) rfl ?_
  refine bthr (pc' := 4) rfl dX0_referenceAt_1 rfl (lkf0 q1115 lf_116) (trivial) (ihN rfl) rfl ?_
  refine bplain (pc' := 5) rfl dX0_referenceAt_4 rfl (ihN rfl) rfl ?_
  refine bplain (pc' := 6) rfl dX0_referenceAt_5 rfl (ihN rfl) rfl ?_
  refine bplain (pc' := 7) rfl dX0_referenceAt_6 rfl (ihN rfl) rfl ?_
  refine bcall (pc' := 10) rfl dX0_referenceAt_7 rfl (trivial) (lcv (n := 1) rfl (pvc (lfv mt_J20_get ⟨by decide, by decide⟩ mok_J20_get ⟨by decide, by decide⟩ ⟨q1777, ln_338, Or.inl ⟨q1776, Or.inl q1778⟩⟩) (trivial)) (Or.inl (by decide))) (ihN rfl) rfl ?_
  refine bthr (pc' := 13) rfl dX0_referenceAt_10 rfl (lkc (nm := "StrideTurns$Statement") q1651 lg_340 lb_341) (Or.inl rfl) (ihN rfl) rfl ?_
  refine bplain (pc' := 14) rfl dX0_referenceAt_13 rfl (ihN rfl) rfl ?_
  refine bplain (pc' := 15) rfl dX0_referenceAt_14 rfl (ihN rfl) rfl ?_
  refine bplain (pc' := 16) rfl dX0_referenceAt_15 rfl (ihN rfl) rfl ?_
  refine bcall (pc' := 19) rfl dX0_referenceAt_16 rfl (trivial) (lcv (n := 1) rfl (pvc (lfv mt_X6_at ⟨by decide, by decide⟩ mok_X6_at ⟨by decide, by decide⟩ ⟨q1785, ln_342, Or.inl ⟨q1784, Or.inl q1786⟩⟩) (trivial)) (Or.inl (by decide))) (ihN rfl) rfl ?_
  refine bret (pc' := 20) rfl dX0_referenceAt_19 rfl (⟨_, rfl, Or.inl ⟨_, rfl⟩⟩) (ihN rfl) rfl ?_
  exact trivial
theorem tf_X0_referenceAt : ∀ x ∈ tb_X0_referenceAt, BOK mt 182 x.1 x.2 := tb_c mt_X0_referenceAt bf_X0_referenceAt_0 (tb_n)
theorem bf_X0_isTo_0 : BOKt mt tX0_isTo 183 0 b_X0_isTo_0 := by
  refine bplain (pc' := 1) rfl dX0_isTo_0 rfl (ihN rfl) rfl ?_
  refine bplain (pc' := 2) rfl dX0_isTo_1 rfl (ihN rfl) rfl ?_
  refine bplain (pc' := 3) rfl dX0_isTo_2 rfl (ihN rfl) rfl ?_
  refine bplain (pc' := 4) rfl dX0_isTo_3 rfl (ihN rfl) rfl ?_
  refine bplain (pc' := 5) rfl dX0_isTo_4 rfl (ihN rfl) rfl ?_
  refine bthr (pc' := 8) rfl dX0_isTo_5 rfl (lkf0 q1115 lf_116) (trivial) (ihN rfl) rfl ?_
  refine bcall (pc' := 11) rfl dX0_isTo_8 rfl (trivial) (lcv (n := 0) rfl (pvc (lfv mt_J20_size ⟨by decide, by decide⟩ mok_J20_size ⟨by decide, by decide⟩ ⟨q1648, ln_40, Or.inl ⟨q1647, Or.inl q1649⟩⟩) (trivial)) (Or.inl (by decide))) (ihN rfl) rfl ?_
  refine bplain (pc' := 12) rfl dX0_isTo_11 rfl (ihN rfl) rfl ?_
  refine bplain (pc' := 13) rfl dX0_isTo_12 rfl (ihN rfl) rfl ?_
  refine bplain (pc' := 14) rfl dX0_isTo_13 rfl (ihN rfl) rfl ?_
  refine bplain (pc' := 15) rfl dX0_isTo_14 rfl (ihN rfl) rfl ?_
  refine bcall (pc' := 18) rfl dX0_isTo_15 rfl (trivial) (lcs (l := q1214) mt_X0_in ⟨by decide, by decide⟩ mok_X0_in rfl ln_210 (Or.inl q1213)) (ihN rfl) rfl ?_
  refine bjmp (tg := 37) (pc' := 21) rfl (by decide) (by decide) rfl dX0_isTo_18 rfl (ihN rfl) rfl ?_
  refine bplain (pc' := 22) rfl dX0_isTo_21 rfl (ihN rfl) rfl ?_
  refine bplain (pc' := 23) rfl dX0_isTo_22 rfl (ihN rfl) rfl ?_
  refine bcall (pc' := 26) rfl dX0_isTo_23 rfl (trivial) (lcv (n := 1) rfl (pvc (lfv mt_X0_referenceAt ⟨by decide, by decide⟩ mok_X0_referenceAt ⟨by decide, by decide⟩ ⟨q1913, ln_342, Or.inl ⟨q1911, Or.inl qs19⟩⟩) (trivial)) (Or.inl (by decide))) (ihN rfl) rfl ?_
  refine bthr (pc' := 29) rfl dX0_isTo_26 rfl (lkf1 (host := "StrideTurns") (by decide) q1669 lf_310) (trivial) (ihN rfl) rfl ?_
  refine bplain (pc' := 30) rfl dX0_isTo_29 rfl (ihN rfl) rfl ?_
  refine bjmp (tg := 37) (pc' := 33) rfl (by decide) (by decide) rfl dX0_isTo_30 rfl (ihN rfl) rfl ?_
  refine bplain (pc' := 34) rfl dX0_isTo_33 rfl (ihN rfl) rfl ?_
  refine bjmp (tg := 38) (pc' := 37) rfl (by decide) (by decide) rfl dX0_isTo_34 rfl (ihN rfl) rfl ?_
  exact trivial
theorem bf_X0_isTo_37 : BOKt mt tX0_isTo 183 37 b_X0_isTo_37 := by
  refine bnop1 ?_
  refine bplain (pc' := 38) rfl dX0_isTo_37 rfl (ihN rfl) rfl ?_
  exact bnop0 rfl (by decide)
theorem bf_X0_isTo_38 : BOKt mt tX0_isTo 183 38 b_X0_isTo_38 := by
  refine bnop1 ?_
  refine bret (pc' := 39) rfl dX0_isTo_38 rfl (Or.inr ⟨rfl, rfl⟩) (ihN rfl) rfl ?_
  exact trivial
theorem tf_X0_isTo : ∀ x ∈ tb_X0_isTo, BOK mt 183 x.1 x.2 := tb_c mt_X0_isTo bf_X0_isTo_0 (tb_c mt_X0_isTo bf_X0_isTo_37 (tb_c mt_X0_isTo bf_X0_isTo_38 (tb_n)))
theorem bf_X0_isTurn_0 : BOKt mt tX0_isTurn 184 0 b_X0_isTurn_0 := by
  refine bplain (pc' := 1) rfl dX0_isTurn_0 rfl (ihN rfl) rfl ?_
  refine bplain (pc' := 2) rfl dX0_isTurn_1 rfl (ihN rfl) rfl ?_
  refine bplain (pc' := 3) rfl dX0_isTurn_2 rfl (ihN rfl) rfl ?_
  refine bplain (pc' := 4) rfl dX0_isTurn_3 rfl (ihN rfl) rfl ?_
  refine bthr (pc' := 7) rfl dX0_isTurn_4 rfl (lkf0 q1118 lf_270) (trivial) (ihN rfl) rfl ?_
  refine bplain (pc' := 8) rfl dX0_isTurn_7 rfl (ihN rfl) rfl ?_
  refine bplain (pc' := 9) rfl dX0_isTurn_8 rfl (ihN rfl) rfl ?_
  refine bplain (pc' := 10) rfl dX0_isTurn_9 rfl (ihN rfl) rfl ?_
  refine bcall (pc' := 13) rfl dX0_isTurn_10 rfl (trivial) (lcs (l := q1214) mt_X0_in ⟨by decide, by decide⟩ mok_X0_in rfl ln_210 (Or.inl q1213)) (ihN rfl) rfl ?_
  refine bret (pc' := 14) rfl dX0_isTurn_13 rfl (Or.inr ⟨rfl, rfl⟩) (ihN rfl) rfl ?_
  exact trivial
theorem tf_X0_isTurn : ∀ x ∈ tb_X0_isTurn, BOK mt 184 x.1 x.2 := tb_c mt_X0_isTurn bf_X0_isTurn_0 (tb_n)
theorem bf_X7_lambda_new_0_0 : BOKt mt tX7_lambda_new_0 185 0 b_X7_lambda_new_0_0 := by
  refine bplain (pc' := 1) rfl dX7_lambda_new_0_0 rfl (ihN rfl) rfl ?_
  refine bret (pc' := 2) rfl dX7_lambda_new_0_1 rfl (Or.inl ⟨rfl, rfl⟩) (ihN rfl) rfl ?_
  exact trivial
theorem tf_X7_lambda_new_0 : ∀ x ∈ tb_X7_lambda_new_0, BOK mt 185 x.1 x.2 := tb_c mt_X7_lambda_new_0 bf_X7_lambda_new_0_0 (tb_n)
theorem bf_X7_lambda_moves_1_0 : BOKt mt tX7_lambda_moves_1 186 0 b_X7_lambda_moves_1_0 := by
  refine bplain (pc' := 1) rfl dX7_lambda_moves_1_0 rfl (ihN rfl) rfl ?_
  refine bplain (pc' := 2) rfl dX7_lambda_moves_1_1 rfl (ihN rfl) rfl ?_
  refine bplain (pc' := 3) rfl dX7_lambda_moves_1_2 rfl (ihN rfl) rfl ?_
  refine bplain (pc' := 4) rfl dX7_lambda_moves_1_3 rfl (ihN rfl) rfl ?_
  refine bplain (pc' := 5) rfl dX7_lambda_moves_1_4 rfl (ihN rfl) rfl ?_
  refine bplain (pc' := 6) rfl dX7_lambda_moves_1_5 rfl (ihN rfl) rfl ?_
  refine bplain (pc' := 8) rfl dX7_lambda_moves_1_6 rfl (ihN rfl) rfl ?_
  refine bplain (pc' := 9) rfl dX7_lambda_moves_1_8 rfl (ihN rfl) rfl ?_
  refine bplain (pc' := 10) rfl dX7_lambda_moves_1_9 rfl (ihN rfl) rfl ?_
  refine bret (pc' := 11) rfl dX7_lambda_moves_1_10 rfl (Or.inl ⟨rfl, rfl⟩) (ihN rfl) rfl ?_
  exact trivial
theorem tf_X7_lambda_moves_1 : ∀ x ∈ tb_X7_lambda_moves_1, BOK mt 186 x.1 x.2 := tb_c mt_X7_lambda_moves_1 bf_X7_lambda_moves_1_0 (tb_n)
theorem bf_J8_abs_0 : BOKt mt tJ8_abs 187 0 b_J8_abs_0 := by
  refine bplain (pc' := 1) rfl dJ8_abs_0 rfl (ihN rfl) rfl ?_
  refine bjmp (tg := 9) (pc' := 4) rfl (by decide) (by decide) rfl dJ8_abs_1 rfl (ihN rfl) rfl ?_
  refine bplain (pc' := 5) rfl dJ8_abs_4 rfl (ihN rfl) rfl ?_
  refine bplain (pc' := 6) rfl dJ8_abs_5 rfl (ihN rfl) rfl ?_
  refine bjmp (tg := 10) (pc' := 9) rfl (by decide) (by decide) rfl dJ8_abs_6 rfl (ihN rfl) rfl ?_
  exact trivial
theorem bf_J8_abs_9 : BOKt mt tJ8_abs 187 9 b_J8_abs_9 := by
  refine bplain (pc' := 10) rfl dJ8_abs_9 rfl (ihN rfl) rfl ?_
  exact bnop0 rfl (by decide)
theorem bf_J8_abs_10 : BOKt mt tJ8_abs 187 10 b_J8_abs_10 := by
  refine bnop1 ?_
  refine bret (pc' := 11) rfl dJ8_abs_10 rfl (Or.inl ⟨rfl, rfl⟩) (ihN rfl) rfl ?_
  exact trivial
theorem tf_J8_abs : ∀ x ∈ tb_J8_abs, BOK mt 187 x.1 x.2 := tb_c mt_J8_abs bf_J8_abs_0 (tb_c mt_J8_abs bf_J8_abs_9 (tb_c mt_J8_abs bf_J8_abs_10 (tb_n)))
theorem bf_X8_init_0 : BOKt mt tX8_init 188 0 b_X8_init_0 := by
  refine bplain (pc' := 1) rfl dX8_init_0 rfl (ihN rfl) rfl ?_
  refine bcall (pc' := 4) rfl dX8_init_1 rfl (trivial) (lco rfl ⟨q1938, q193, q194⟩) (ihN rfl) rfl ?_
  refine bplain (pc' := 5) rfl dX8_init_4 rfl (ihN rfl) rfl ?_
  refine bplain (pc' := 6) rfl dX8_init_5 rfl (ihN rfl) rfl ?_
  refine bjmp (tg := 13) (pc' := 9) rfl (by decide) (by decide) rfl dX8_init_6 rfl (ihN rfl) rfl ?_
  refine bplain (pc' := 10) rfl dX8_init_9 rfl (ihN rfl) rfl ?_
  refine bjmp (tg := 14) (pc' := 13) rfl (by decide) (by decide) rfl dX8_init_10 rfl (ihN rfl) rfl ?_
  exact trivial
theorem bf_X8_init_13 : BOKt mt tX8_init 188 13 b_X8_init_13 := by
  refine bplain (pc' := 14) rfl dX8_init_13 rfl (ihN rfl) rfl ?_
  exact bnop0 rfl (by decide)
theorem bf_X8_init_14 : BOKt mt tX8_init 188 14 b_X8_init_14 := by
  refine bnop1 ?_
  refine bobj (pc' := 17) rfl dX8_init_14 rfl (⟨lkf0 q1939 lf_39, lkp1 rfl lp_382⟩) (ihN rfl) rfl ?_
  refine bplain (pc' := 18) rfl dX8_init_17 rfl (ihN rfl) rfl ?_
  refine bplain (pc' := 19) rfl dX8_init_18 rfl (ihN rfl) rfl ?_
  refine bplain (pc' := 20) rfl dX8_init_19 rfl (ihN rfl) rfl ?_
  refine bjmp (tg := 27) (pc' := 23) rfl (by decide) (by decide) rfl dX8_init_20 rfl (ihN rfl) rfl ?_
  refine bplain (pc' := 24) rfl dX8_init_23 rfl (ihN rfl) rfl ?_
  refine bjmp (tg := 28) (pc' := 27) rfl (by decide) (by decide) rfl dX8_init_24 rfl (ihN rfl) rfl ?_
  exact trivial
theorem bf_X8_init_27 : BOKt mt tX8_init 188 27 b_X8_init_27 := by
  refine bplain (pc' := 28) rfl dX8_init_27 rfl (ihN rfl) rfl ?_
  exact bnop0 rfl (by decide)
theorem bf_X8_init_28 : BOKt mt tX8_init 188 28 b_X8_init_28 := by
  refine bnop1 ?_
  refine bobj (pc' := 31) rfl dX8_init_28 rfl (⟨lkf0 q1941 lf_37, lkp1 rfl lp_383⟩) (ihN rfl) rfl ?_
  refine bplain (pc' := 32) rfl dX8_init_31 rfl (ihN rfl) rfl ?_
  refine bplain (pc' := 33) rfl dX8_init_32 rfl (ihN rfl) rfl ?_
  refine bobj (pc' := 36) rfl dX8_init_33 rfl (⟨lkf0 q1943 lf_38, lkp1 rfl lp_384⟩) (ihN rfl) rfl ?_
  refine bret (pc' := 37) rfl dX8_init_36 rfl (rfl) (ihN rfl) rfl ?_
  exact trivial
theorem tf_X8_init : ∀ x ∈ tb_X8_init, BOK mt 188 x.1 x.2 := tb_c mt_X8_init bf_X8_init_0 (tb_c mt_X8_init bf_X8_init_13 (tb_c mt_X8_init bf_X8_init_14 (tb_c mt_X8_init bf_X8_init_27 (tb_c mt_X8_init bf_X8_init_28 (tb_n)))))
theorem bf_X8_of_0 : BOKt mt tX8_of 189 0 b_X8_of_0 := by
  refine bplain (pc' := 1) rfl dX8_of_0 rfl (ihN rfl) rfl ?_
  refine bthr (pc' := 4) rfl dX8_of_1 rfl (lkf1 (host := "StrideTurns") (by decide) q1678 lf_308) (trivial) (ihN rfl) rfl ?_
  refine bplain (pc' := 5) rfl dX8_of_4 rfl (ihN rfl) rfl ?_
  refine bplain (pc' := 6) rfl dX8_of_5 rfl (ihN rfl) rfl ?_
  refine bcall (pc' := 11) rfl dX8_of_6 rfl (trivial) (lcl (n := 2) (j := 2) rfl q1927 ln_252 rfl (plc (lfl (q := 31) rfl ⟨by decide, by decide⟩ rfl mt_X7_lambda_new_0 ⟨by decide, by decide⟩ mok_X7_lambda_new_0 ll_388 ll_389) (plc (lfl (q := 35) rfl ⟨by decide, by decide⟩ rfl mt_X7_lambda_moves_1 ⟨by decide, by decide⟩ mok_X7_lambda_moves_1 ll_386 ll_387) (trivial)))) (ihN rfl) rfl ?_
  refine bplain (pc' := 12) rfl dX8_of_11 rfl (ihN rfl) rfl ?_
  refine bplain (pc' := 13) rfl dX8_of_12 rfl (ihN rfl) rfl ?_
  refine bthr (pc' := 16) rfl dX8_of_13 rfl (lkf1 (host := "StrideTurns") (by decide) q1678 lf_308) (trivial) (ihN rfl) rfl ?_
  refine bplain (pc' := 17) rfl dX8_of_16 rfl (ihN rfl) rfl ?_
  refine bplain (pc' := 18) rfl dX8_of_17 rfl (ihN rfl) rfl ?_
  refine bplain (pc' := 19) rfl dX8_of_18 rfl (ihN rfl) rfl ?_
  refine bplain (pc' := 20) rfl dX8_of_19 rfl (ihN rfl) rfl ?_
  refine bcall (pc' := 25) rfl dX8_of_20 rfl (trivial) (lcl (n := 2) (j := 2) rfl q1927 ln_252 rfl (plc (lfl (q := 31) rfl ⟨by decide, by decide⟩ rfl mt_X7_lambda_new_0 ⟨by decide, by decide⟩ mok_X7_lambda_new_0 ll_388 ll_389) (plc (lfl (q := 35) rfl ⟨by decide, by decide⟩ rfl mt_X7_lambda_moves_1 ⟨by decide, by decide⟩ mok_X7_lambda_moves_1 ll_386 ll_387) (trivial)))) (ihN rfl) rfl ?_
  refine bplain (pc' := 27) rfl dX8_of_25 rfl (ihN rfl) rfl ?_
  refine bthr (pc' := 30) rfl dX8_of_27 rfl (⟨⟨by decide, by decide, by decide⟩, rfl, q761, q1930, q179⟩) (trivial) (ihN rfl) rfl ?_
  refine bplain (pc' := 31) rfl dX8_of_30 rfl (ihN rfl) rfl ?_
  refine bplain (pc' := 32) rfl dX8_of_31 rfl (ihN rfl) rfl ?_
  refine bplain (pc' := 34) rfl dX8_of_32 rfl (ihN rfl) rfl ?_
  refine bcall (pc' := 37) rfl dX8_of_34 rfl (trivial) (lcs (l := q549) mt_J8_min ⟨by decide, by decide⟩ mok_J8_min rfl ln_252 (Or.inl q1931)) (ihN rfl) rfl ?_
  refine bplain (pc' := 38) rfl dX8_of_37 rfl (ihN rfl) rfl ?_
  refine bthr (pc' := 41) rfl dX8_of_38 rfl (lkf1 (host := "StrideTurns") (by decide) q1675 lf_347) (trivial) (ihN rfl) rfl ?_
  refine bcall (pc' := 44) rfl dX8_of_41 rfl (trivial) (lcs (l := q1933) mt_J8_abs ⟨by decide, by decide⟩ mok_J8_abs rfl ln_225 (Or.inl q1932)) (ihN rfl) rfl ?_
  refine bplain (pc' := 45) rfl dX8_of_44 rfl (ihN rfl) rfl ?_
  refine bthr (pc' := 48) rfl dX8_of_45 rfl (lkf1 (host := "StrideTurns") (by decide) q1675 lf_347) (trivial) (ihN rfl) rfl ?_
  refine bjmp (tg := 55) (pc' := 51) rfl (by decide) (by decide) rfl dX8_of_48 rfl (ihN rfl) rfl ?_
  refine bplain (pc' := 52) rfl dX8_of_51 rfl (ihN rfl) rfl ?_
  refine bjmp (tg := 56) (pc' := 55) rfl (by decide) (by decide) rfl dX8_of_52 rfl (ihN rfl) rfl ?_
  exact trivial
theorem bf_X8_of_55 : BOKt mt tX8_of 189 55 b_X8_of_55 := by
  refine bplain (pc' := 56) rfl dX8_of_55 rfl (ihN rfl) rfl ?_
  exact bnop0 rfl (by decide)
theorem bf_X8_of_56 : BOKt mt tX8_of 189 56 b_X8_of_56 := by
  refine bnop1 ?_
  refine bcall (pc' := 59) rfl dX8_of_56 rfl (trivial) (lci mt_X8_init ⟨by decide, by decide⟩ mok_X8_init rfl rfl rfl ln_237 q1936 rfl (Or.inl q1935)) (ihN rfl) rfl ?_
  refine bret (pc' := 60) rfl dX8_of_59 rfl (⟨_, rfl, Or.inl ⟨_, rfl⟩⟩) (ihN rfl) rfl ?_
  exact trivial
theorem tf_X8_of : ∀ x ∈ tb_X8_of, BOK mt 189 x.1 x.2 := tb_c mt_X8_of bf_X8_of_0 (tb_c mt_X8_of bf_X8_of_55 (tb_c mt_X8_of bf_X8_of_56 (tb_n)))
theorem bf_X0_sectionAt_0 : BOKt mt tX0_sectionAt 190 0 b_X0_sectionAt_0 := by
  refine bplain (pc' := 1) rfl dX0_sectionAt_0 rfl (ihN rfl) rfl ?_
  refine bplain (pc' := 2) rfl dX0_sectionAt_1 rfl (ihN rfl) rfl ?_
  refine bcall (pc' := 5) rfl dX0_sectionAt_2 rfl (trivial) (lcv (n := 1) rfl (pvc (lfv mt_X0_referenceAt ⟨by decide, by decide⟩ mok_X0_referenceAt ⟨by decide, by decide⟩ ⟨q1913, ln_342, Or.inl ⟨q1911, Or.inl qs19⟩⟩) (trivial)) (Or.inl (by decide))) (ihN rfl) rfl ?_
  refine bplain (pc' := 6) rfl dX0_sectionAt_5 rfl (ihN rfl) rfl ?_
  refine bplain (pc' := 7) rfl dX0_sectionAt_6 rfl (ihN rfl) rfl ?_
  refine bthr (pc' := 10) rfl dX0_sectionAt_7 rfl (lkf0 q1115 lf_116) (trivial) (ihN rfl) rfl ?_
  refine bplain (pc' := 11) rfl dX0_sectionAt_10 rfl (ihN rfl) rfl ?_
  refine bplain (pc' := 12) rfl dX0_sectionAt_11 rfl (ihN rfl) rfl ?_
  refine bplain (pc' := 13) rfl dX0_sectionAt_12 rfl (ihN rfl) rfl ?_
  refine bcall (pc' := 16) rfl dX0_sectionAt_13 rfl (trivial) (lcv (n := 1) rfl (pvc (lfv mt_J20_get ⟨by decide, by decide⟩ mok_J20_get ⟨by decide, by decide⟩ ⟨q1777, ln_338, Or.inl ⟨q1776, Or.inl q1778⟩⟩) (trivial)) (Or.inl (by decide))) (ihN rfl) rfl ?_
  refine bthr (pc' := 19) rfl dX0_sectionAt_16 rfl (lkc (nm := "StrideTurns$Statement") q1651 lg_340 lb_341) (Or.inl rfl) (ihN rfl) rfl ?_
  refine bthr (pc' := 22) rfl dX0_sectionAt_19 rfl (lkf1 (host := "StrideTurns") (by decide) q1699 lf_324) (trivial) (ihN rfl) rfl ?_
  refine bcall (pc' := 25) rfl dX0_sectionAt_22 rfl (trivial) (lcs (l := q1924) mt_X8_of ⟨by decide, by decide⟩ mok_X8_of rfl ln_390 (Or.inl q1923)) (ihN rfl) rfl ?_
  refine bret (pc' := 26) rfl dX0_sectionAt_25 rfl (⟨_, rfl, Or.inl ⟨_, rfl⟩⟩) (ihN rfl) rfl ?_
  exact trivial
theorem tf_X0_sectionAt : ∀ x ∈ tb_X0_sectionAt, BOK mt 190 x.1 x.2 := tb_c mt_X0_sectionAt bf_X0_sectionAt_0 (tb_n)
theorem bf_X8_tells_0 : BOKt mt tX8_tells 191 0 b_X8_tells_0 := by
  refine bplain (pc' := 1) rfl dX8_tells_0 rfl (ihN rfl) rfl ?_
  exact bsw rfl dX8_tells_1 (swl (by decide +kernel) (by decide) (by decide) (by decide +kernel) (by decide +kernel)) (by decide +kernel) (ihN rfl)
theorem bf_X8_tells_28 : BOKt mt tX8_tells 191 28 b_X8_tells_28 := by
  refine bplain (pc' := 29) rfl dX8_tells_28 rfl (ihN rfl) rfl ?_
  refine bthr (pc' := 32) rfl dX8_tells_29 rfl (lkf0 q1939 lf_39) (trivial) (ihN rfl) rfl ?_
  refine bjmp (tg := 46) (pc' := 35) rfl (by decide) (by decide) rfl dX8_tells_32 rfl (ihN rfl) rfl ?_
  exact trivial
theorem bf_X8_tells_35 : BOKt mt tX8_tells 191 35 b_X8_tells_35 := by
  refine bplain (pc' := 36) rfl dX8_tells_35 rfl (ihN rfl) rfl ?_
  refine bthr (pc' := 39) rfl dX8_tells_36 rfl (lkf0 q1941 lf_37) (trivial) (ihN rfl) rfl ?_
  refine bjmp (tg := 46) (pc' := 42) rfl (by decide) (by decide) rfl dX8_tells_39 rfl (ihN rfl) rfl ?_
  exact trivial
theorem bf_X8_tells_42 : BOKt mt tX8_tells 191 42 b_X8_tells_42 := by
  refine bplain (pc' := 43) rfl dX8_tells_42 rfl (ihN rfl) rfl ?_
  refine bthr (pc' := 46) rfl dX8_tells_43 rfl (lkf0 q1943 lf_38) (trivial) (ihN rfl) rfl ?_
  exact bnop0 rfl (by decide)
theorem bf_X8_tells_46 : BOKt mt tX8_tells 191 46 b_X8_tells_46 := by
  refine bnop1 ?_
  refine bret (pc' := 47) rfl dX8_tells_46 rfl (Or.inl ⟨rfl, rfl⟩) (ihN rfl) rfl ?_
  exact trivial
theorem tf_X8_tells : ∀ x ∈ tb_X8_tells, BOK mt 191 x.1 x.2 := tb_c mt_X8_tells bf_X8_tells_0 (tb_c mt_X8_tells bf_X8_tells_28 (tb_c mt_X8_tells bf_X8_tells_35 (tb_c mt_X8_tells bf_X8_tells_42 (tb_c mt_X8_tells bf_X8_tells_46 (tb_n)))))
theorem bf_X0_section_0 : BOKt mt tX0_section 192 0 b_X0_section_0 := by
  refine bplain (pc' := 1) rfl dX0_section_0 rfl (ihN rfl) rfl ?_
  refine bplain (pc' := 2) rfl dX0_section_1 rfl (ihN rfl) rfl ?_
  refine bcall (pc' := 5) rfl dX0_section_2 rfl (trivial) (lcv (n := 1) rfl (pvc (lfv mt_X0_isTo ⟨by decide, by decide⟩ mok_X0_isTo ⟨by decide, by decide⟩ ⟨q1909, ln_222, Or.inl ⟨q1907, Or.inl qs18⟩⟩) (trivial)) (Or.inl (by decide))) (ihN rfl) rfl ?_
  refine bjmp (tg := 41) (pc' := 8) rfl (by decide) (by decide) rfl dX0_section_5 rfl (ihN rfl) rfl ?_
  refine bplain (pc' := 9) rfl dX0_section_8 rfl (ihN rfl) rfl ?_
  refine bplain (pc' := 10) rfl dX0_section_9 rfl (ihN rfl) rfl ?_
  refine bcall (pc' := 13) rfl dX0_section_10 rfl (trivial) (lcv (n := 1) rfl (pvc (lfv mt_X0_isTurn ⟨by decide, by decide⟩ mok_X0_isTurn ⟨by decide, by decide⟩ ⟨q1917, ln_222, Or.inl ⟨q1915, Or.inl qs20⟩⟩) (trivial)) (Or.inl (by decide))) (ihN rfl) rfl ?_
  refine bjmp (tg := 41) (pc' := 16) rfl (by decide) (by decide) rfl dX0_section_13 rfl (ihN rfl) rfl ?_
  refine bplain (pc' := 17) rfl dX0_section_16 rfl (ihN rfl) rfl ?_
  refine bplain (pc' := 18) rfl dX0_section_17 rfl (ihN rfl) rfl ?_
  refine bplain (pc' := 19) rfl dX0_section_18 rfl (ihN rfl) rfl ?_
  refine bobj (pc' := 22) rfl dX0_section_19 rfl (lkq0 lc_336 q1775) (ihN rfl) rfl ?_
  refine bcall (pc' := 25) rfl dX0_section_22 rfl (trivial) (lcs (l := q1214) mt_X0_in ⟨by decide, by decide⟩ mok_X0_in rfl ln_210 (Or.inl q1213)) (ihN rfl) rfl ?_
  refine bjmp (tg := 41) (pc' := 28) rfl (by decide) (by decide) rfl dX0_section_25 rfl (ihN rfl) rfl ?_
  refine bplain (pc' := 29) rfl dX0_section_28 rfl (ihN rfl) rfl ?_
  refine bplain (pc' := 30) rfl dX0_section_29 rfl (ihN rfl) rfl ?_
  refine bplain (pc' := 31) rfl dX0_section_30 rfl (ihN rfl) rfl ?_
  refine bcall (pc' := 34) rfl dX0_section_31 rfl (trivial) (lcv (n := 2) rfl (pvc (lfv mt_X0_sectionAt ⟨by decide, by decide⟩ mok_X0_sectionAt ⟨by decide, by decide⟩ ⟨q1921, ln_391, Or.inl ⟨q1919, Or.inl qs21⟩⟩) (trivial)) (Or.inl (by decide))) (ihN rfl) rfl ?_
  refine bplain (pc' := 35) rfl dX0_section_34 rfl (ihN rfl) rfl ?_
  refine bcall (pc' := 38) rfl dX0_section_35 rfl (trivial) (lcv (n := 1) rfl (pvc (lfv mt_X8_tells ⟨by decide, by decide⟩ mok_X8_tells ⟨by decide, by decide⟩ ⟨q1953, ln_225, Or.inl ⟨q1952, Or.inl q1954⟩⟩) (trivial)) (Or.inl (by decide))) (ihN rfl) rfl ?_
  refine bjmp (tg := 44) (pc' := 41) rfl (by decide) (by decide) rfl dX0_section_38 rfl (ihN rfl) rfl ?_
  exact trivial
theorem bf_X0_section_41 : BOKt mt tX0_section 192 41 b_X0_section_41 := by
  refine bnop1 ?_
  refine bobj (pc' := 44) rfl dX0_section_41 rfl (lkl0 lc_251 q1902) (ihN rfl) rfl ?_
  exact bnop0 rfl (by decide)
theorem bf_X0_section_44 : BOKt mt tX0_section 192 44 b_X0_section_44 := by
  refine bnop1 ?_
  refine bret (pc' := 45) rfl dX0_section_44 rfl (Or.inl ⟨rfl, rfl⟩) (ihN rfl) rfl ?_
  exact trivial
theorem tf_X0_section : ∀ x ∈ tb_X0_section, BOK mt 192 x.1 x.2 := tb_c mt_X0_section bf_X0_section_0 (tb_c mt_X0_section bf_X0_section_41 (tb_c mt_X0_section bf_X0_section_44 (tb_n)))
theorem bf_X3_isSection_0 : BOKt mt tX3_isSection 193 0 b_X3_isSection_0 := by
  refine bplain (pc' := 1) rfl dX3_isSection_0 rfl (ihN rfl) rfl ?_
  refine bplain (pc' := 2) rfl dX3_isSection_1 rfl (ihN rfl) rfl ?_
  refine bplain (pc' := 3) rfl dX3_isSection_2 rfl (ihN rfl) rfl ?_
  refine bplain (pc' := 4) rfl dX3_isSection_3 rfl (ihN rfl) rfl ?_
  refine bthr (pc' := 7) rfl dX3_isSection_4 rfl (lkf0 q2604 lf_334) (trivial) (ihN rfl) rfl ?_
  refine bplain (pc' := 8) rfl dX3_isSection_7 rfl (ihN rfl) rfl ?_
  refine bplain (pc' := 9) rfl dX3_isSection_8 rfl (ihN rfl) rfl ?_
  refine bplain (pc' := 10) rfl dX3_isSection_9 rfl (ihN rfl) rfl ?_
  refine bcall (pc' := 13) rfl dX3_isSection_10 rfl (trivial) (lcs (l := q2747) mt_X3_in ⟨by decide, by decide⟩ mok_X3_in rfl ln_226 (Or.inl q2746)) (ihN rfl) rfl ?_
  refine bjmp (tg := 44) (pc' := 16) rfl (by decide) (by decide) rfl dX3_isSection_13 rfl (ihN rfl) rfl ?_
  refine bplain (pc' := 17) rfl dX3_isSection_16 rfl (ihN rfl) rfl ?_
  refine bplain (pc' := 18) rfl dX3_isSection_17 rfl (ihN rfl) rfl ?_
  refine bplain (pc' := 19) rfl dX3_isSection_18 rfl (ihN rfl) rfl ?_
  refine bthr (pc' := 22) rfl dX3_isSection_19 rfl (lkf0 q2603 lf_274) (trivial) (ihN rfl) rfl ?_
  refine bplain (pc' := 23) rfl dX3_isSection_22 rfl (ihN rfl) rfl ?_
  refine bplain (pc' := 24) rfl dX3_isSection_23 rfl (ihN rfl) rfl ?_
  refine bcall (pc' := 27) rfl dX3_isSection_24 rfl (trivial) (lcs (l := q2747) mt_X3_in ⟨by decide, by decide⟩ mok_X3_in rfl ln_226 (Or.inl q2746)) (ihN rfl) rfl ?_
  refine bjmp (tg := 44) (pc' := 30) rfl (by decide) (by decide) rfl dX3_isSection_27 rfl (ihN rfl) rfl ?_
  refine bplain (pc' := 31) rfl dX3_isSection_30 rfl (ihN rfl) rfl ?_
  refine bthr (pc' := 34) rfl dX3_isSection_31 rfl (lkf0 q2610 lf_165) (trivial) (ihN rfl) rfl ?_
  refine bplain (pc' := 35) rfl dX3_isSection_34 rfl (ihN rfl) rfl ?_
  refine bplain (pc' := 36) rfl dX3_isSection_35 rfl (ihN rfl) rfl ?_
  refine bplain (pc' := 37) rfl dX3_isSection_36 rfl (ihN rfl) rfl ?_
  refine bjmp (tg := 44) (pc' := 40) rfl (by decide) (by decide) rfl dX3_isSection_37 rfl (ihN rfl) rfl ?_
  refine bplain (pc' := 41) rfl dX3_isSection_40 rfl (ihN rfl) rfl ?_
  refine bjmp (tg := 45) (pc' := 44) rfl (by decide) (by decide) rfl dX3_isSection_41 rfl (ihN rfl) rfl ?_
  exact trivial
theorem bf_X3_isSection_44 : BOKt mt tX3_isSection 193 44 b_X3_isSection_44 := by
  refine bnop1 ?_
  refine bplain (pc' := 45) rfl dX3_isSection_44 rfl (ihN rfl) rfl ?_
  exact bnop0 rfl (by decide)
theorem bf_X3_isSection_45 : BOKt mt tX3_isSection 193 45 b_X3_isSection_45 := by
  refine bnop1 ?_
  refine bret (pc' := 46) rfl dX3_isSection_45 rfl (Or.inr ⟨rfl, rfl⟩) (ihN rfl) rfl ?_
  exact trivial
theorem tf_X3_isSection : ∀ x ∈ tb_X3_isSection, BOK mt 193 x.1 x.2 := tb_c mt_X3_isSection bf_X3_isSection_0 (tb_c mt_X3_isSection bf_X3_isSection_44 (tb_c mt_X3_isSection bf_X3_isSection_45 (tb_n)))
theorem bf_X3_placeOf_0 : BOKt mt tX3_placeOf 194 0 b_X3_placeOf_0 := by
  refine bplain (pc' := 1) rfl dX3_placeOf_0 rfl (ihN rfl) rfl ?_
  refine bthr (pc' := 4) rfl dX3_placeOf_1 rfl (lkf0 q2611 lf_167) (trivial) (ihN rfl) rfl ?_
  refine bplain (pc' := 5) rfl dX3_placeOf_4 rfl (ihN rfl) rfl ?_
  refine bplain (pc' := 6) rfl dX3_placeOf_5 rfl (ihN rfl) rfl ?_
  refine bplain (pc' := 7) rfl dX3_placeOf_6 rfl (ihN rfl) rfl ?_
  refine bthr (pc' := 10) rfl dX3_placeOf_7 rfl (lkf0 q2612 lf_169) (trivial) (ihN rfl) rfl ?_
  refine bplain (pc' := 11) rfl dX3_placeOf_10 rfl (ihN rfl) rfl ?_
  refine bplain (pc' := 12) rfl dX3_placeOf_11 rfl (ihN rfl) rfl ?_
  refine bplain (pc' := 13) rfl dX3_placeOf_12 rfl (ihN rfl) rfl ?_
  refine bplain (pc' := 14) rfl dX3_placeOf_13 rfl (ihN rfl) rfl ?_
  refine bplain (pc' := 15) rfl dX3_placeOf_14 rfl (ihN rfl) rfl ?_
  refine bplain (pc' := 16) rfl dX3_placeOf_15 rfl (ihN rfl) rfl ?_
  refine bthr (pc' := 19) rfl dX3_placeOf_16 rfl (lkf0 q2613 lf_171) (trivial) (ihN rfl) rfl ?_
  refine bplain (pc' := 20) rfl dX3_placeOf_19 rfl (ihN rfl) rfl ?_
  refine bplain (pc' := 21) rfl dX3_placeOf_20 rfl (ihN rfl) rfl ?_
  refine bplain (pc' := 22) rfl dX3_placeOf_21 rfl (ihN rfl) rfl ?_
  refine bplain (pc' := 23) rfl dX3_placeOf_22 rfl (ihN rfl) rfl ?_
  refine bplain (pc' := 24) rfl dX3_placeOf_23 rfl (ihN rfl) rfl ?_
  refine bret (pc' := 25) rfl dX3_placeOf_24 rfl (Or.inl ⟨rfl, rfl⟩) (ihN rfl) rfl ?_
  exact trivial
theorem tf_X3_placeOf : ∀ x ∈ tb_X3_placeOf, BOK mt 194 x.1 x.2 := tb_c mt_X3_placeOf bf_X3_placeOf_0 (tb_n)
theorem bf_X3_firstOf_0 : BOKt mt tX3_firstOf 195 0 b_X3_firstOf_0 := by
  refine bplain (pc' := 1) rfl dX3_firstOf_0 rfl (ihN rfl) rfl ?_
  refine bplain (pc' := 2) rfl dX3_firstOf_1 rfl (ihN rfl) rfl ?_
  refine bplain (pc' := 3) rfl dX3_firstOf_2 rfl (ihN rfl) rfl ?_
  refine bplain (pc' := 4) rfl dX3_firstOf_3 rfl (ihN rfl) rfl ?_
  refine bthr (pc' := 7) rfl dX3_firstOf_4 rfl (lkf0 q2606 lf_157) (trivial) (ihN rfl) rfl ?_
  refine bplain (pc' := 8) rfl dX3_firstOf_7 rfl (ihN rfl) rfl ?_
  refine bplain (pc' := 9) rfl dX3_firstOf_8 rfl (ihN rfl) rfl ?_
  refine bplain (pc' := 10) rfl dX3_firstOf_9 rfl (ihN rfl) rfl ?_
  refine bplain (pc' := 11) rfl dX3_firstOf_10 rfl (ihN rfl) rfl ?_
  refine bplain (pc' := 12) rfl dX3_firstOf_11 rfl (ihN rfl) rfl ?_
  refine bplain (pc' := 13) rfl dX3_firstOf_12 rfl (ihN rfl) rfl ?_
  refine bcall (pc' := 16) rfl dX3_firstOf_13 rfl (trivial) (lcv (n := 3) rfl (pvc (lfv mt_X3_placeOf ⟨by decide, by decide⟩ mok_X3_placeOf ⟨by decide, by decide⟩ ⟨q2893, ln_255, Or.inl ⟨q2891, Or.inl qs79⟩⟩) (trivial)) (Or.inl (by decide))) (ihN rfl) rfl ?_
  refine bplain (pc' := 17) rfl dX3_firstOf_16 rfl (ihN rfl) rfl ?_
  refine bplain (pc' := 18) rfl dX3_firstOf_17 rfl (ihN rfl) rfl ?_
  refine bplain (pc' := 19) rfl dX3_firstOf_18 rfl (ihN rfl) rfl ?_
  refine bplain (pc' := 20) rfl dX3_firstOf_19 rfl (ihN rfl) rfl ?_
  refine bplain (pc' := 21) rfl dX3_firstOf_20 rfl (ihN rfl) rfl ?_
  refine bcall (pc' := 24) rfl dX3_firstOf_21 rfl (trivial) (lcv (n := 3) rfl (pvc (lfv mt_X3_placeOf ⟨by decide, by decide⟩ mok_X3_placeOf ⟨by decide, by decide⟩ ⟨q2893, ln_255, Or.inl ⟨q2891, Or.inl qs79⟩⟩) (trivial)) (Or.inl (by decide))) (ihN rfl) rfl ?_
  refine bplain (pc' := 26) rfl dX3_firstOf_24 rfl (ihN rfl) rfl ?_
  refine bplain (pc' := 28) rfl dX3_firstOf_26 rfl (ihN rfl) rfl ?_
  refine bplain (pc' := 29) rfl dX3_firstOf_28 rfl (ihN rfl) rfl ?_
  refine bjmp (tg := 37) (pc' := 32) rfl (by decide) (by decide) rfl dX3_firstOf_29 rfl (ihN rfl) rfl ?_
  refine bplain (pc' := 34) rfl dX3_firstOf_32 rfl (ihN rfl) rfl ?_
  refine bjmp (tg := 38) (pc' := 37) rfl (by decide) (by decide) rfl dX3_firstOf_34 rfl (ihN rfl) rfl ?_
  exact trivial
theorem bf_X3_firstOf_37 : BOKt mt tX3_firstOf 195 37 b_X3_firstOf_37 := by
  refine bplain (pc' := 38) rfl dX3_firstOf_37 rfl (ihN rfl) rfl ?_
  exact bnop0 rfl (by decide)
theorem bf_X3_firstOf_38 : BOKt mt tX3_firstOf 195 38 b_X3_firstOf_38 := by
  refine bnop1 ?_
  refine bret (pc' := 39) rfl dX3_firstOf_38 rfl (Or.inl ⟨rfl, rfl⟩) (ihN rfl) rfl ?_
  exact trivial
theorem tf_X3_firstOf : ∀ x ∈ tb_X3_firstOf, BOK mt 195 x.1 x.2 := tb_c mt_X3_firstOf bf_X3_firstOf_0 (tb_c mt_X3_firstOf bf_X3_firstOf_37 (tb_c mt_X3_firstOf bf_X3_firstOf_38 (tb_n)))
theorem bf_X3_manyOf_0 : BOKt mt tX3_manyOf 196 0 b_X3_manyOf_0 := by
  refine bplain (pc' := 1) rfl dX3_manyOf_0 rfl (ihN rfl) rfl ?_
  refine bthr (pc' := 4) rfl dX3_manyOf_1 rfl (lkf0 q2613 lf_171) (trivial) (ihN rfl) rfl ?_
  refine bplain (pc' := 5) rfl dX3_manyOf_4 rfl (ihN rfl) rfl ?_
  refine bplain (pc' := 6) rfl dX3_manyOf_5 rfl (ihN rfl) rfl ?_
  refine bjmp (tg := 13) (pc' := 9) rfl (by decide) (by decide) rfl dX3_manyOf_6 rfl (ihN rfl) rfl ?_
  refine bplain (pc' := 10) rfl dX3_manyOf_9 rfl (ihN rfl) rfl ?_
  refine bjmp (tg := 21) (pc' := 13) rfl (by decide) (by decide) rfl dX3_manyOf_10 rfl (ihN rfl) rfl ?_
  exact trivial
theorem bf_X3_manyOf_13 : BOKt mt tX3_manyOf 196 13 b_X3_manyOf_13 := by
  refine bplain (pc' := 14) rfl dX3_manyOf_13 rfl (ihN rfl) rfl ?_
  refine bthr (pc' := 17) rfl dX3_manyOf_14 rfl (lkf0 q2606 lf_157) (trivial) (ihN rfl) rfl ?_
  refine bplain (pc' := 18) rfl dX3_manyOf_17 rfl (ihN rfl) rfl ?_
  refine bplain (pc' := 19) rfl dX3_manyOf_18 rfl (ihN rfl) rfl ?_
  refine bplain (pc' := 20) rfl dX3_manyOf_19 rfl (ihN rfl) rfl ?_
  refine bplain (pc' := 21) rfl dX3_manyOf_20 rfl (ihN rfl) rfl ?_
  exact bnop0 rfl (by decide)
theorem bf_X3_manyOf_21 : BOKt mt tX3_manyOf 196 21 b_X3_manyOf_21 := by
  refine bnop1 ?_
  refine bret (pc' := 22) rfl dX3_manyOf_21 rfl (Or.inl ⟨rfl, rfl⟩) (ihN rfl) rfl ?_
  exact trivial
theorem tf_X3_manyOf : ∀ x ∈ tb_X3_manyOf, BOK mt 196 x.1 x.2 := tb_c mt_X3_manyOf bf_X3_manyOf_0 (tb_c mt_X3_manyOf bf_X3_manyOf_13 (tb_c mt_X3_manyOf bf_X3_manyOf_21 (tb_n)))
theorem bf_X3_strideOf_0 : BOKt mt tX3_strideOf 197 0 b_X3_strideOf_0 := by
  refine bplain (pc' := 1) rfl dX3_strideOf_0 rfl (ihN rfl) rfl ?_
  refine bplain (pc' := 2) rfl dX3_strideOf_1 rfl (ihN rfl) rfl ?_
  refine bcall (pc' := 5) rfl dX3_strideOf_2 rfl (trivial) (lcv (n := 1) rfl (pvc (lfv mt_X3_manyOf ⟨by decide, by decide⟩ mok_X3_manyOf ⟨by decide, by decide⟩ ⟨q2901, ln_225, Or.inl ⟨q2899, Or.inl qs81⟩⟩) (trivial)) (Or.inl (by decide))) (ihN rfl) rfl ?_
  refine bplain (pc' := 6) rfl dX3_strideOf_5 rfl (ihN rfl) rfl ?_
  refine bjmp (tg := 13) (pc' := 9) rfl (by decide) (by decide) rfl dX3_strideOf_6 rfl (ihN rfl) rfl ?_
  refine bplain (pc' := 10) rfl dX3_strideOf_9 rfl (ihN rfl) rfl ?_
  refine bjmp (tg := 38) (pc' := 13) rfl (by decide) (by decide) rfl dX3_strideOf_10 rfl (ihN rfl) rfl ?_
  exact trivial
theorem bf_X3_strideOf_13 : BOKt mt tX3_strideOf 197 13 b_X3_strideOf_13 := by
  refine bplain (pc' := 14) rfl dX3_strideOf_13 rfl (ihN rfl) rfl ?_
  refine bthr (pc' := 17) rfl dX3_strideOf_14 rfl (lkf0 q2613 lf_171) (trivial) (ihN rfl) rfl ?_
  refine bplain (pc' := 18) rfl dX3_strideOf_17 rfl (ihN rfl) rfl ?_
  refine bplain (pc' := 19) rfl dX3_strideOf_18 rfl (ihN rfl) rfl ?_
  refine bjmp (tg := 32) (pc' := 22) rfl (by decide) (by decide) rfl dX3_strideOf_19 rfl (ihN rfl) rfl ?_
  refine bplain (pc' := 23) rfl dX3_strideOf_22 rfl (ihN rfl) rfl ?_
  refine bthr (pc' := 26) rfl dX3_strideOf_23 rfl (lkf0 q2613 lf_171) (trivial) (ihN rfl) rfl ?_
  refine bplain (pc' := 27) rfl dX3_strideOf_26 rfl (ihN rfl) rfl ?_
  refine bplain (pc' := 28) rfl dX3_strideOf_27 rfl (ihN rfl) rfl ?_
  refine bplain (pc' := 29) rfl dX3_strideOf_28 rfl (ihN rfl) rfl ?_
  refine bjmp (tg := 38) (pc' := 32) rfl (by decide) (by decide) rfl dX3_strideOf_29 rfl (ihN rfl) rfl ?_
  exact trivial
theorem bf_X3_strideOf_32 : BOKt mt tX3_strideOf 197 32 b_X3_strideOf_32 := by
  refine bplain (pc' := 33) rfl dX3_strideOf_32 rfl (ihN rfl) rfl ?_
  refine bthr (pc' := 36) rfl dX3_strideOf_33 rfl (lkf0 q2613 lf_171) (trivial) (ihN rfl) rfl ?_
  refine bplain (pc' := 37) rfl dX3_strideOf_36 rfl (ihN rfl) rfl ?_
  refine bplain (pc' := 38) rfl dX3_strideOf_37 rfl (ihN rfl) rfl ?_
  exact bnop0 rfl (by decide)
theorem bf_X3_strideOf_38 : BOKt mt tX3_strideOf 197 38 b_X3_strideOf_38 := by
  refine bnop1 ?_
  refine bret (pc' := 39) rfl dX3_strideOf_38 rfl (Or.inl ⟨rfl, rfl⟩) (ihN rfl) rfl ?_
  exact trivial
theorem tf_X3_strideOf : ∀ x ∈ tb_X3_strideOf, BOK mt 197 x.1 x.2 := tb_c mt_X3_strideOf bf_X3_strideOf_0 (tb_c mt_X3_strideOf bf_X3_strideOf_13 (tb_c mt_X3_strideOf bf_X3_strideOf_32 (tb_c mt_X3_strideOf bf_X3_strideOf_38 (tb_n))))
theorem bf_X3_sectionOf_0 : BOKt mt tX3_sectionOf 198 0 b_X3_sectionOf_0 := by
  refine bplain (pc' := 1) rfl dX3_sectionOf_0 rfl (ihN rfl) rfl ?_
  refine bjmp (tg := 13) (pc' := 4) rfl (by decide) (by decide) rfl dX3_sectionOf_1 rfl (ihN rfl) rfl ?_
  refine bplain (pc' := 5) rfl dX3_sectionOf_4 rfl (ihN rfl) rfl ?_
  refine bplain (pc' := 6) rfl dX3_sectionOf_5 rfl (ihN rfl) rfl ?_
  refine bplain (pc' := 7) rfl dX3_sectionOf_6 rfl (ihN rfl) rfl ?_
  refine bcall (pc' := 10) rfl dX3_sectionOf_7 rfl (trivial) (lcv (n := 2) rfl (pvc (lfv mt_X3_firstOf ⟨by decide, by decide⟩ mok_X3_firstOf ⟨by decide, by decide⟩ ⟨q2889, ln_252, Or.inl ⟨q2887, Or.inl qs78⟩⟩) (trivial)) (Or.inl (by decide))) (ihN rfl) rfl ?_
  refine bjmp (tg := 31) (pc' := 13) rfl (by decide) (by decide) rfl dX3_sectionOf_10 rfl (ihN rfl) rfl ?_
  exact trivial
theorem bf_X3_sectionOf_13 : BOKt mt tX3_sectionOf 198 13 b_X3_sectionOf_13 := by
  refine bplain (pc' := 14) rfl dX3_sectionOf_13 rfl (ihN rfl) rfl ?_
  refine bplain (pc' := 15) rfl dX3_sectionOf_14 rfl (ihN rfl) rfl ?_
  refine bjmp (tg := 26) (pc' := 18) rfl (by decide) (by decide) rfl dX3_sectionOf_15 rfl (ihN rfl) rfl ?_
  refine bplain (pc' := 19) rfl dX3_sectionOf_18 rfl (ihN rfl) rfl ?_
  refine bplain (pc' := 20) rfl dX3_sectionOf_19 rfl (ihN rfl) rfl ?_
  refine bcall (pc' := 23) rfl dX3_sectionOf_20 rfl (trivial) (lcv (n := 1) rfl (pvc (lfv mt_X3_strideOf ⟨by decide, by decide⟩ mok_X3_strideOf ⟨by decide, by decide⟩ ⟨q2897, ln_225, Or.inl ⟨q2895, Or.inl qs80⟩⟩) (trivial)) (Or.inl (by decide))) (ihN rfl) rfl ?_
  refine bjmp (tg := 31) (pc' := 26) rfl (by decide) (by decide) rfl dX3_sectionOf_23 rfl (ihN rfl) rfl ?_
  exact trivial
theorem bf_X3_sectionOf_26 : BOKt mt tX3_sectionOf 198 26 b_X3_sectionOf_26 := by
  refine bplain (pc' := 27) rfl dX3_sectionOf_26 rfl (ihN rfl) rfl ?_
  refine bplain (pc' := 28) rfl dX3_sectionOf_27 rfl (ihN rfl) rfl ?_
  refine bcall (pc' := 31) rfl dX3_sectionOf_28 rfl (trivial) (lcv (n := 1) rfl (pvc (lfv mt_X3_manyOf ⟨by decide, by decide⟩ mok_X3_manyOf ⟨by decide, by decide⟩ ⟨q2901, ln_225, Or.inl ⟨q2899, Or.inl qs81⟩⟩) (trivial)) (Or.inl (by decide))) (ihN rfl) rfl ?_
  exact bnop0 rfl (by decide)
theorem bf_X3_sectionOf_31 : BOKt mt tX3_sectionOf 198 31 b_X3_sectionOf_31 := by
  refine bnop1 ?_
  refine bret (pc' := 32) rfl dX3_sectionOf_31 rfl (Or.inl ⟨rfl, rfl⟩) (ihN rfl) rfl ?_
  exact trivial
theorem tf_X3_sectionOf : ∀ x ∈ tb_X3_sectionOf, BOK mt 198 x.1 x.2 := tb_c mt_X3_sectionOf bf_X3_sectionOf_0 (tb_c mt_X3_sectionOf bf_X3_sectionOf_13 (tb_c mt_X3_sectionOf bf_X3_sectionOf_26 (tb_c mt_X3_sectionOf bf_X3_sectionOf_31 (tb_n))))
theorem bf_X3_section_0 : BOKt mt tX3_section 199 0 b_X3_section_0 := by
  refine bplain (pc' := 1) rfl dX3_section_0 rfl (ihN rfl) rfl ?_
  refine bplain (pc' := 2) rfl dX3_section_1 rfl (ihN rfl) rfl ?_
  refine bplain (pc' := 3) rfl dX3_section_2 rfl (ihN rfl) rfl ?_
  refine bcall (pc' := 6) rfl dX3_section_3 rfl (trivial) (lcv (n := 2) rfl (pvc (lfv mt_X3_isSection ⟨by decide, by decide⟩ mok_X3_isSection ⟨by decide, by decide⟩ ⟨q2881, ln_339, Or.inl ⟨q2879, Or.inl qs76⟩⟩) (trivial)) (Or.inl (by decide))) (ihN rfl) rfl ?_
  refine bjmp (tg := 28) (pc' := 9) rfl (by decide) (by decide) rfl dX3_section_6 rfl (ihN rfl) rfl ?_
  refine bplain (pc' := 10) rfl dX3_section_9 rfl (ihN rfl) rfl ?_
  refine bplain (pc' := 11) rfl dX3_section_10 rfl (ihN rfl) rfl ?_
  refine bplain (pc' := 12) rfl dX3_section_11 rfl (ihN rfl) rfl ?_
  refine bcall (pc' := 15) rfl dX3_section_12 rfl (trivial) (lcs (l := q2747) mt_X3_in ⟨by decide, by decide⟩ mok_X3_in rfl ln_226 (Or.inl q2746)) (ihN rfl) rfl ?_
  refine bjmp (tg := 28) (pc' := 18) rfl (by decide) (by decide) rfl dX3_section_15 rfl (ihN rfl) rfl ?_
  refine bplain (pc' := 19) rfl dX3_section_18 rfl (ihN rfl) rfl ?_
  refine bplain (pc' := 20) rfl dX3_section_19 rfl (ihN rfl) rfl ?_
  refine bplain (pc' := 21) rfl dX3_section_20 rfl (ihN rfl) rfl ?_
  refine bplain (pc' := 22) rfl dX3_section_21 rfl (ihN rfl) rfl ?_
  refine bcall (pc' := 25) rfl dX3_section_22 rfl (trivial) (lcv (n := 3) rfl (pvc (lfv mt_X3_sectionOf ⟨by decide, by decide⟩ mok_X3_sectionOf ⟨by decide, by decide⟩ ⟨q2885, ln_255, Or.inl ⟨q2883, Or.inl qs77⟩⟩) (trivial)) (Or.inl (by decide))) (ihN rfl) rfl ?_
  refine bjmp (tg := 30) (pc' := 28) rfl (by decide) (by decide) rfl dX3_section_25 rfl (ihN rfl) rfl ?_
  exact trivial
theorem bf_X3_section_28 : BOKt mt tX3_section 199 28 b_X3_section_28 := by
  refine bnop1 ?_
  refine bobj (pc' := 30) rfl dX3_section_28 rfl (lkl0 lc_251 q2783) (ihN rfl) rfl ?_
  exact bnop0 rfl (by decide)
theorem bf_X3_section_30 : BOKt mt tX3_section 199 30 b_X3_section_30 := by
  refine bnop1 ?_
  refine bret (pc' := 31) rfl dX3_section_30 rfl (Or.inl ⟨rfl, rfl⟩) (ihN rfl) rfl ?_
  exact trivial
theorem tf_X3_section : ∀ x ∈ tb_X3_section, BOK mt 199 x.1 x.2 := tb_c mt_X3_section bf_X3_section_0 (tb_c mt_X3_section bf_X3_section_28 (tb_c mt_X3_section bf_X3_section_30 (tb_n)))
theorem bf_X0_divisor_0 : BOKt mt tX0_divisor 200 0 b_X0_divisor_0 := by
  refine bplain (pc' := 1) rfl dX0_divisor_0 rfl (ihN rfl) rfl ?_
  refine bplain (pc' := 2) rfl dX0_divisor_1 rfl (ihN rfl) rfl ?_
  refine bplain (pc' := 3) rfl dX0_divisor_2 rfl (ihN rfl) rfl ?_
  refine bplain (pc' := 4) rfl dX0_divisor_3 rfl (ihN rfl) rfl ?_
  exact bnop0 rfl (by decide)
theorem bf_X0_divisor_4 : BOKt mt tX0_divisor 200 4 b_X0_divisor_4 := by
  refine bnop1 ?_
  refine bplain (pc' := 5) rfl dX0_divisor_4 rfl (ihN rfl) rfl ?_
  refine bjmp (tg := 21) (pc' := 8) rfl (by decide) (by decide) rfl dX0_divisor_5 rfl (ihN rfl) rfl ?_
  refine bplain (pc' := 9) rfl dX0_divisor_8 rfl (ihN rfl) rfl ?_
  refine bplain (pc' := 10) rfl dX0_divisor_9 rfl (ihN rfl) rfl ?_
  refine bplain (pc' := 11) rfl dX0_divisor_10 rfl (ihN rfl) rfl ?_
  refine bplain (pc' := 13) rfl dX0_divisor_11 rfl (ihN rfl) rfl ?_
  refine bplain (pc' := 14) rfl dX0_divisor_13 rfl (ihN rfl) rfl ?_
  refine bplain (pc' := 15) rfl dX0_divisor_14 rfl (ihN rfl) rfl ?_
  refine bplain (pc' := 17) rfl dX0_divisor_15 rfl (ihN rfl) rfl ?_
  refine bplain (pc' := 18) rfl dX0_divisor_17 rfl (ihN rfl) rfl ?_
  refine bjmp (tg := 4) (pc' := 21) rfl (by decide) (by decide) rfl dX0_divisor_18 rfl (ihN rfl) rfl ?_
  exact trivial
theorem bf_X0_divisor_21 : BOKt mt tX0_divisor 200 21 b_X0_divisor_21 := by
  refine bplain (pc' := 22) rfl dX0_divisor_21 rfl (ihN rfl) rfl ?_
  refine bret (pc' := 23) rfl dX0_divisor_22 rfl (Or.inl ⟨rfl, rfl⟩) (ihN rfl) rfl ?_
  exact trivial
theorem tf_X0_divisor : ∀ x ∈ tb_X0_divisor, BOK mt 200 x.1 x.2 := tb_c mt_X0_divisor bf_X0_divisor_0 (tb_c mt_X0_divisor bf_X0_divisor_4 (tb_c mt_X0_divisor bf_X0_divisor_21 (tb_n)))
theorem bf_J8_floorMod_0 : BOKt mt tJ8_floorMod 201 0 b_J8_floorMod_0 := by
  refine bplain (pc' := 1) rfl dJ8_floorMod_0 rfl (ihN rfl) rfl ?_
  refine bplain (pc' := 2) rfl dJ8_floorMod_1 rfl (ihN rfl) rfl ?_
  refine bplain (pc' := 3) rfl dJ8_floorMod_2 rfl (ihN rfl) rfl ?_
  refine bplain (pc' := 4) rfl dJ8_floorMod_3 rfl (ihN rfl) rfl ?_
  refine bplain (pc' := 5) rfl dJ8_floorMod_4 rfl (ihN rfl) rfl ?_
  refine bplain (pc' := 6) rfl dJ8_floorMod_5 rfl (ihN rfl) rfl ?_
  refine bplain (pc' := 7) rfl dJ8_floorMod_6 rfl (ihN rfl) rfl ?_
  refine bjmp (tg := 18) (pc' := 10) rfl (by decide) (by decide) rfl dJ8_floorMod_7 rfl (ihN rfl) rfl ?_
  refine bplain (pc' := 11) rfl dJ8_floorMod_10 rfl (ihN rfl) rfl ?_
  refine bjmp (tg := 18) (pc' := 14) rfl (by decide) (by decide) rfl dJ8_floorMod_11 rfl (ihN rfl) rfl ?_
  refine bplain (pc' := 15) rfl dJ8_floorMod_14 rfl (ihN rfl) rfl ?_
  refine bplain (pc' := 16) rfl dJ8_floorMod_15 rfl (ihN rfl) rfl ?_
  refine bplain (pc' := 17) rfl dJ8_floorMod_16 rfl (ihN rfl) rfl ?_
  refine bret (pc' := 18) rfl dJ8_floorMod_17 rfl (Or.inl ⟨rfl, rfl⟩) (ihN rfl) rfl ?_
  exact trivial
theorem bf_J8_floorMod_18 : BOKt mt tJ8_floorMod 201 18 b_J8_floorMod_18 := by
  refine bnop1 ?_
  refine bplain (pc' := 19) rfl dJ8_floorMod_18 rfl (ihN rfl) rfl ?_
  refine bret (pc' := 20) rfl dJ8_floorMod_19 rfl (Or.inl ⟨rfl, rfl⟩) (ihN rfl) rfl ?_
  exact trivial
theorem tf_J8_floorMod : ∀ x ∈ tb_J8_floorMod, BOK mt 201 x.1 x.2 := tb_c mt_J8_floorMod bf_J8_floorMod_0 (tb_c mt_J8_floorMod bf_J8_floorMod_18 (tb_n))
theorem bf_X8_last_0 : BOKt mt tX8_last 202 0 b_X8_last_0 := by
  refine bplain (pc' := 1) rfl dX8_last_0 rfl (ihN rfl) rfl ?_
  refine bthr (pc' := 4) rfl dX8_last_1 rfl (lkf0 q1939 lf_39) (trivial) (ihN rfl) rfl ?_
  refine bplain (pc' := 5) rfl dX8_last_4 rfl (ihN rfl) rfl ?_
  refine bthr (pc' := 8) rfl dX8_last_5 rfl (lkf0 q1943 lf_38) (trivial) (ihN rfl) rfl ?_
  refine bplain (pc' := 9) rfl dX8_last_8 rfl (ihN rfl) rfl ?_
  refine bplain (pc' := 10) rfl dX8_last_9 rfl (ihN rfl) rfl ?_
  refine bplain (pc' := 11) rfl dX8_last_10 rfl (ihN rfl) rfl ?_
  refine bthr (pc' := 14) rfl dX8_last_11 rfl (lkf0 q1941 lf_37) (trivial) (ihN rfl) rfl ?_
  refine bplain (pc' := 15) rfl dX8_last_14 rfl (ihN rfl) rfl ?_
  refine bplain (pc' := 16) rfl dX8_last_15 rfl (ihN rfl) rfl ?_
  refine bret (pc' := 17) rfl dX8_last_16 rfl (Or.inl ⟨rfl, rfl⟩) (ihN rfl) rfl ?_
  exact trivial
theorem tf_X8_last : ∀ x ∈ tb_X8_last, BOK mt 202 x.1 x.2 := tb_c mt_X8_last bf_X8_last_0 (tb_n)
theorem bf_X8_meet_0 : BOKt mt tX8_meet 203 0 b_X8_meet_0 := by
  refine bplain (pc' := 1) rfl dX8_meet_0 rfl (ihN rfl) rfl ?_
  refine bthr (pc' := 4) rfl dX8_meet_1 rfl (lkf0 q1941 lf_37) (trivial) (ihN rfl) rfl ?_
  refine bplain (pc' := 5) rfl dX8_meet_4 rfl (ihN rfl) rfl ?_
  refine bthr (pc' := 8) rfl dX8_meet_5 rfl (lkf0 q1941 lf_37) (trivial) (ihN rfl) rfl ?_
  refine bcall (pc' := 11) rfl dX8_meet_8 rfl (trivial) (lcs (l := q1965) mt_X0_divisor ⟨by decide, by decide⟩ mok_X0_divisor rfl ln_252 (Or.inr ⟨"StrideTurns", q1964⟩)) (ihN rfl) rfl ?_
  refine bplain (pc' := 12) rfl dX8_meet_11 rfl (ihN rfl) rfl ?_
  refine bplain (pc' := 13) rfl dX8_meet_12 rfl (ihN rfl) rfl ?_
  refine bthr (pc' := 16) rfl dX8_meet_13 rfl (lkf0 q1943 lf_38) (trivial) (ihN rfl) rfl ?_
  refine bjmp (tg := 40) (pc' := 19) rfl (by decide) (by decide) rfl dX8_meet_16 rfl (ihN rfl) rfl ?_
  refine bplain (pc' := 20) rfl dX8_meet_19 rfl (ihN rfl) rfl ?_
  refine bthr (pc' := 23) rfl dX8_meet_20 rfl (lkf0 q1943 lf_38) (trivial) (ihN rfl) rfl ?_
  refine bjmp (tg := 40) (pc' := 26) rfl (by decide) (by decide) rfl dX8_meet_23 rfl (ihN rfl) rfl ?_
  refine bplain (pc' := 27) rfl dX8_meet_26 rfl (ihN rfl) rfl ?_
  refine bthr (pc' := 30) rfl dX8_meet_27 rfl (lkf0 q1939 lf_39) (trivial) (ihN rfl) rfl ?_
  refine bplain (pc' := 31) rfl dX8_meet_30 rfl (ihN rfl) rfl ?_
  refine bthr (pc' := 34) rfl dX8_meet_31 rfl (lkf0 q1939 lf_39) (trivial) (ihN rfl) rfl ?_
  refine bplain (pc' := 35) rfl dX8_meet_34 rfl (ihN rfl) rfl ?_
  refine bplain (pc' := 36) rfl dX8_meet_35 rfl (ihN rfl) rfl ?_
  refine bplain (pc' := 37) rfl dX8_meet_36 rfl (ihN rfl) rfl ?_
  refine bjmp (tg := 51) (pc' := 40) rfl (by decide) (by decide) rfl dX8_meet_37 rfl (ihN rfl) rfl ?_
  exact bnop0 rfl (by decide)
theorem bf_X8_meet_40 : BOKt mt tX8_meet 203 40 b_X8_meet_40 := by
  refine bnop1 ?_
  refine bthr (pc' := 43) rfl dX8_meet_40 rfl (⟨⟨by decide, by decide, by decide⟩, rfl, q761, q1930, q179⟩) (trivial) (ihN rfl) rfl ?_
  refine bplain (pc' := 44) rfl dX8_meet_43 rfl (ihN rfl) rfl ?_
  refine bplain (pc' := 45) rfl dX8_meet_44 rfl (ihN rfl) rfl ?_
  refine bplain (pc' := 46) rfl dX8_meet_45 rfl (ihN rfl) rfl ?_
  refine bplain (pc' := 47) rfl dX8_meet_46 rfl (ihN rfl) rfl ?_
  refine bcall (pc' := 50) rfl dX8_meet_47 rfl (trivial) (lci mt_X8_init ⟨by decide, by decide⟩ mok_X8_init rfl rfl rfl ln_237 q1936 rfl (Or.inl q1935)) (ihN rfl) rfl ?_
  refine bret (pc' := 51) rfl dX8_meet_50 rfl (⟨_, rfl, Or.inl ⟨_, rfl⟩⟩) (ihN rfl) rfl ?_
  exact trivial
theorem bf_X8_meet_51 : BOKt mt tX8_meet 203 51 b_X8_meet_51 := by
  refine bplain (pc' := 52) rfl dX8_meet_51 rfl (ihN rfl) rfl ?_
  refine bthr (pc' := 55) rfl dX8_meet_52 rfl (lkf0 q1941 lf_37) (trivial) (ihN rfl) rfl ?_
  refine bplain (pc' := 56) rfl dX8_meet_55 rfl (ihN rfl) rfl ?_
  refine bplain (pc' := 57) rfl dX8_meet_56 rfl (ihN rfl) rfl ?_
  refine bplain (pc' := 58) rfl dX8_meet_57 rfl (ihN rfl) rfl ?_
  refine bplain (pc' := 59) rfl dX8_meet_58 rfl (ihN rfl) rfl ?_
  refine bplain (pc' := 61) rfl dX8_meet_59 rfl (ihN rfl) rfl ?_
  exact bnop0 rfl (by decide)
theorem bf_X8_meet_61 : BOKt mt tX8_meet 203 61 b_X8_meet_61 := by
  refine bnop1 ?_
  refine bplain (pc' := 62) rfl dX8_meet_61 rfl (ihN rfl) rfl ?_
  refine bthr (pc' := 65) rfl dX8_meet_62 rfl (lkf0 q1939 lf_39) (trivial) (ihN rfl) rfl ?_
  refine bplain (pc' := 67) rfl dX8_meet_65 rfl (ihN rfl) rfl ?_
  refine bplain (pc' := 68) rfl dX8_meet_67 rfl (ihN rfl) rfl ?_
  refine bthr (pc' := 71) rfl dX8_meet_68 rfl (lkf0 q1941 lf_37) (trivial) (ihN rfl) rfl ?_
  refine bplain (pc' := 72) rfl dX8_meet_71 rfl (ihN rfl) rfl ?_
  refine bplain (pc' := 73) rfl dX8_meet_72 rfl (ihN rfl) rfl ?_
  refine bplain (pc' := 74) rfl dX8_meet_73 rfl (ihN rfl) rfl ?_
  refine bthr (pc' := 77) rfl dX8_meet_74 rfl (lkf0 q1939 lf_39) (trivial) (ihN rfl) rfl ?_
  refine bplain (pc' := 78) rfl dX8_meet_77 rfl (ihN rfl) rfl ?_
  refine bplain (pc' := 79) rfl dX8_meet_78 rfl (ihN rfl) rfl ?_
  refine bthr (pc' := 82) rfl dX8_meet_79 rfl (lkf0 q1941 lf_37) (trivial) (ihN rfl) rfl ?_
  refine bcall (pc' := 85) rfl dX8_meet_82 rfl (trivial) (lcs (l := q1968) mt_J8_floorMod ⟨by decide, by decide⟩ mok_J8_floorMod rfl ln_252 (Or.inl q1967)) (ihN rfl) rfl ?_
  refine bjmp (tg := 100) (pc' := 88) rfl (by decide) (by decide) rfl dX8_meet_85 rfl (ihN rfl) rfl ?_
  refine bplain (pc' := 90) rfl dX8_meet_88 rfl (ihN rfl) rfl ?_
  refine bplain (pc' := 91) rfl dX8_meet_90 rfl (ihN rfl) rfl ?_
  refine bjmp (tg := 100) (pc' := 94) rfl (by decide) (by decide) rfl dX8_meet_91 rfl (ihN rfl) rfl ?_
  refine bplain (pc' := 97) rfl dX8_meet_94 rfl (ihN rfl) rfl ?_
  refine bjmp (tg := 61) (pc' := 100) rfl (by decide) (by decide) rfl dX8_meet_97 rfl (ihN rfl) rfl ?_
  exact trivial
theorem bf_X8_meet_100 : BOKt mt tX8_meet 203 100 b_X8_meet_100 := by
  refine bnop1 ?_
  refine bplain (pc' := 101) rfl dX8_meet_100 rfl (ihN rfl) rfl ?_
  refine bthr (pc' := 104) rfl dX8_meet_101 rfl (lkf0 q1941 lf_37) (trivial) (ihN rfl) rfl ?_
  refine bplain (pc' := 105) rfl dX8_meet_104 rfl (ihN rfl) rfl ?_
  refine bplain (pc' := 106) rfl dX8_meet_105 rfl (ihN rfl) rfl ?_
  refine bplain (pc' := 108) rfl dX8_meet_106 rfl (ihN rfl) rfl ?_
  refine bplain (pc' := 109) rfl dX8_meet_108 rfl (ihN rfl) rfl ?_
  refine bthr (pc' := 112) rfl dX8_meet_109 rfl (lkf0 q1939 lf_39) (trivial) (ihN rfl) rfl ?_
  refine bplain (pc' := 114) rfl dX8_meet_112 rfl (ihN rfl) rfl ?_
  refine bplain (pc' := 115) rfl dX8_meet_114 rfl (ihN rfl) rfl ?_
  refine bthr (pc' := 118) rfl dX8_meet_115 rfl (lkf0 q1941 lf_37) (trivial) (ihN rfl) rfl ?_
  refine bplain (pc' := 119) rfl dX8_meet_118 rfl (ihN rfl) rfl ?_
  refine bplain (pc' := 120) rfl dX8_meet_119 rfl (ihN rfl) rfl ?_
  refine bplain (pc' := 122) rfl dX8_meet_120 rfl (ihN rfl) rfl ?_
  refine bplain (pc' := 123) rfl dX8_meet_122 rfl (ihN rfl) rfl ?_
  refine bthr (pc' := 126) rfl dX8_meet_123 rfl (lkf0 q1939 lf_39) (trivial) (ihN rfl) rfl ?_
  refine bplain (pc' := 127) rfl dX8_meet_126 rfl (ihN rfl) rfl ?_
  refine bthr (pc' := 130) rfl dX8_meet_127 rfl (lkf0 q1939 lf_39) (trivial) (ihN rfl) rfl ?_
  refine bcall (pc' := 133) rfl dX8_meet_130 rfl (trivial) (lcs (l := q1518) mt_J8_max ⟨by decide, by decide⟩ mok_J8_max rfl ln_252 (Or.inl q1970)) (ihN rfl) rfl ?_
  refine bplain (pc' := 135) rfl dX8_meet_133 rfl (ihN rfl) rfl ?_
  refine bplain (pc' := 137) rfl dX8_meet_135 rfl (ihN rfl) rfl ?_
  refine bplain (pc' := 139) rfl dX8_meet_137 rfl (ihN rfl) rfl ?_
  refine bjmp (tg := 163) (pc' := 142) rfl (by decide) (by decide) rfl dX8_meet_139 rfl (ihN rfl) rfl ?_
  refine bplain (pc' := 144) rfl dX8_meet_142 rfl (ihN rfl) rfl ?_
  refine bplain (pc' := 146) rfl dX8_meet_144 rfl (ihN rfl) rfl ?_
  refine bplain (pc' := 148) rfl dX8_meet_146 rfl (ihN rfl) rfl ?_
  refine bplain (pc' := 149) rfl dX8_meet_148 rfl (ihN rfl) rfl ?_
  refine bplain (pc' := 151) rfl dX8_meet_149 rfl (ihN rfl) rfl ?_
  refine bplain (pc' := 152) rfl dX8_meet_151 rfl (ihN rfl) rfl ?_
  refine bplain (pc' := 153) rfl dX8_meet_152 rfl (ihN rfl) rfl ?_
  refine bplain (pc' := 154) rfl dX8_meet_153 rfl (ihN rfl) rfl ?_
  refine bplain (pc' := 156) rfl dX8_meet_154 rfl (ihN rfl) rfl ?_
  refine bplain (pc' := 157) rfl dX8_meet_156 rfl (ihN rfl) rfl ?_
  refine bplain (pc' := 159) rfl dX8_meet_157 rfl (ihN rfl) rfl ?_
  refine bplain (pc' := 160) rfl dX8_meet_159 rfl (ihN rfl) rfl ?_
  refine bplain (pc' := 161) rfl dX8_meet_160 rfl (ihN rfl) rfl ?_
  refine bplain (pc' := 163) rfl dX8_meet_161 rfl (ihN rfl) rfl ?_
  exact bnop0 rfl (by decide)
theorem bf_X8_meet_163 : BOKt mt tX8_meet 203 163 b_X8_meet_163 := by
  refine bnop1 ?_
  refine bplain (pc' := 164) rfl dX8_meet_163 rfl (ihN rfl) rfl ?_
  refine bcall (pc' := 167) rfl dX8_meet_164 rfl (trivial) (lcv (n := 0) rfl (pvc (lfv mt_X8_last ⟨by decide, by decide⟩ mok_X8_last ⟨by decide, by decide⟩ ⟨q1972, ln_40, Or.inl ⟨q1971, Or.inl q1973⟩⟩) (trivial)) (Or.inl (by decide))) (ihN rfl) rfl ?_
  refine bplain (pc' := 168) rfl dX8_meet_167 rfl (ihN rfl) rfl ?_
  refine bcall (pc' := 171) rfl dX8_meet_168 rfl (trivial) (lcv (n := 0) rfl (pvc (lfv mt_X8_last ⟨by decide, by decide⟩ mok_X8_last ⟨by decide, by decide⟩ ⟨q1972, ln_40, Or.inl ⟨q1971, Or.inl q1973⟩⟩) (trivial)) (Or.inl (by decide))) (ihN rfl) rfl ?_
  refine bcall (pc' := 174) rfl dX8_meet_171 rfl (trivial) (lcs (l := q549) mt_J8_min ⟨by decide, by decide⟩ mok_J8_min rfl ln_252 (Or.inl q1931)) (ihN rfl) rfl ?_
  refine bplain (pc' := 176) rfl dX8_meet_174 rfl (ihN rfl) rfl ?_
  refine bthr (pc' := 179) rfl dX8_meet_176 rfl (⟨⟨by decide, by decide, by decide⟩, rfl, q761, q1930, q179⟩) (trivial) (ihN rfl) rfl ?_
  refine bplain (pc' := 180) rfl dX8_meet_179 rfl (ihN rfl) rfl ?_
  refine bplain (pc' := 182) rfl dX8_meet_180 rfl (ihN rfl) rfl ?_
  refine bplain (pc' := 184) rfl dX8_meet_182 rfl (ihN rfl) rfl ?_
  refine bplain (pc' := 186) rfl dX8_meet_184 rfl (ihN rfl) rfl ?_
  refine bplain (pc' := 188) rfl dX8_meet_186 rfl (ihN rfl) rfl ?_
  refine bjmp (tg := 195) (pc' := 191) rfl (by decide) (by decide) rfl dX8_meet_188 rfl (ihN rfl) rfl ?_
  refine bplain (pc' := 192) rfl dX8_meet_191 rfl (ihN rfl) rfl ?_
  refine bjmp (tg := 205) (pc' := 195) rfl (by decide) (by decide) rfl dX8_meet_192 rfl (ihN rfl) rfl ?_
  exact trivial
theorem bf_X8_meet_195 : BOKt mt tX8_meet 203 195 b_X8_meet_195 := by
  refine bplain (pc' := 197) rfl dX8_meet_195 rfl (ihN rfl) rfl ?_
  refine bplain (pc' := 199) rfl dX8_meet_197 rfl (ihN rfl) rfl ?_
  refine bplain (pc' := 200) rfl dX8_meet_199 rfl (ihN rfl) rfl ?_
  refine bplain (pc' := 202) rfl dX8_meet_200 rfl (ihN rfl) rfl ?_
  refine bplain (pc' := 203) rfl dX8_meet_202 rfl (ihN rfl) rfl ?_
  refine bplain (pc' := 204) rfl dX8_meet_203 rfl (ihN rfl) rfl ?_
  refine bplain (pc' := 205) rfl dX8_meet_204 rfl (ihN rfl) rfl ?_
  exact bnop0 rfl (by decide)
theorem bf_X8_meet_205 : BOKt mt tX8_meet 203 205 b_X8_meet_205 := by
  refine bnop1 ?_
  refine bcall (pc' := 208) rfl dX8_meet_205 rfl (trivial) (lci mt_X8_init ⟨by decide, by decide⟩ mok_X8_init rfl rfl rfl ln_237 q1936 rfl (Or.inl q1935)) (ihN rfl) rfl ?_
  refine bret (pc' := 209) rfl dX8_meet_208 rfl (⟨_, rfl, Or.inl ⟨_, rfl⟩⟩) (ihN rfl) rfl ?_
  exact trivial
theorem tf_X8_meet : ∀ x ∈ tb_X8_meet, BOK mt 203 x.1 x.2 := tb_c mt_X8_meet bf_X8_meet_0 (tb_c mt_X8_meet bf_X8_meet_40 (tb_c mt_X8_meet bf_X8_meet_51 (tb_c mt_X8_meet bf_X8_meet_61 (tb_c mt_X8_meet bf_X8_meet_100 (tb_c mt_X8_meet bf_X8_meet_163 (tb_c mt_X8_meet bf_X8_meet_195 (tb_c mt_X8_meet bf_X8_meet_205 (tb_n))))))))
theorem bf_X0_meet_0 : BOKt mt tX0_meet 204 0 b_X0_meet_0 := by
  refine bplain (pc' := 1) rfl dX0_meet_0 rfl (ihN rfl) rfl ?_
  refine bplain (pc' := 2) rfl dX0_meet_1 rfl (ihN rfl) rfl ?_
  refine bcall (pc' := 5) rfl dX0_meet_2 rfl (trivial) (lcv (n := 1) rfl (pvc (lfv mt_X0_isTo ⟨by decide, by decide⟩ mok_X0_isTo ⟨by decide, by decide⟩ ⟨q1909, ln_222, Or.inl ⟨q1907, Or.inl qs18⟩⟩) (trivial)) (Or.inl (by decide))) (ihN rfl) rfl ?_
  refine bjmp (tg := 46) (pc' := 8) rfl (by decide) (by decide) rfl dX0_meet_5 rfl (ihN rfl) rfl ?_
  refine bplain (pc' := 9) rfl dX0_meet_8 rfl (ihN rfl) rfl ?_
  refine bplain (pc' := 10) rfl dX0_meet_9 rfl (ihN rfl) rfl ?_
  refine bcall (pc' := 13) rfl dX0_meet_10 rfl (trivial) (lcv (n := 1) rfl (pvc (lfv mt_X0_isTurn ⟨by decide, by decide⟩ mok_X0_isTurn ⟨by decide, by decide⟩ ⟨q1917, ln_222, Or.inl ⟨q1915, Or.inl qs20⟩⟩) (trivial)) (Or.inl (by decide))) (ihN rfl) rfl ?_
  refine bjmp (tg := 46) (pc' := 16) rfl (by decide) (by decide) rfl dX0_meet_13 rfl (ihN rfl) rfl ?_
  refine bplain (pc' := 17) rfl dX0_meet_16 rfl (ihN rfl) rfl ?_
  refine bplain (pc' := 18) rfl dX0_meet_17 rfl (ihN rfl) rfl ?_
  refine bcall (pc' := 21) rfl dX0_meet_18 rfl (trivial) (lcv (n := 1) rfl (pvc (lfv mt_X0_isTo ⟨by decide, by decide⟩ mok_X0_isTo ⟨by decide, by decide⟩ ⟨q1909, ln_222, Or.inl ⟨q1907, Or.inl qs18⟩⟩) (trivial)) (Or.inl (by decide))) (ihN rfl) rfl ?_
  refine bjmp (tg := 46) (pc' := 24) rfl (by decide) (by decide) rfl dX0_meet_21 rfl (ihN rfl) rfl ?_
  refine bplain (pc' := 25) rfl dX0_meet_24 rfl (ihN rfl) rfl ?_
  refine bplain (pc' := 27) rfl dX0_meet_25 rfl (ihN rfl) rfl ?_
  refine bcall (pc' := 30) rfl dX0_meet_27 rfl (trivial) (lcv (n := 1) rfl (pvc (lfv mt_X0_isTurn ⟨by decide, by decide⟩ mok_X0_isTurn ⟨by decide, by decide⟩ ⟨q1917, ln_222, Or.inl ⟨q1915, Or.inl qs20⟩⟩) (trivial)) (Or.inl (by decide))) (ihN rfl) rfl ?_
  refine bjmp (tg := 46) (pc' := 33) rfl (by decide) (by decide) rfl dX0_meet_30 rfl (ihN rfl) rfl ?_
  refine bplain (pc' := 35) rfl dX0_meet_33 rfl (ihN rfl) rfl ?_
  refine bplain (pc' := 36) rfl dX0_meet_35 rfl (ihN rfl) rfl ?_
  refine bplain (pc' := 37) rfl dX0_meet_36 rfl (ihN rfl) rfl ?_
  refine bobj (pc' := 40) rfl dX0_meet_37 rfl (lkq0 lc_377 q1897) (ihN rfl) rfl ?_
  refine bcall (pc' := 43) rfl dX0_meet_40 rfl (trivial) (lcs (l := q1214) mt_X0_in ⟨by decide, by decide⟩ mok_X0_in rfl ln_210 (Or.inl q1213)) (ihN rfl) rfl ?_
  refine bjmp (tg := 50) (pc' := 46) rfl (by decide) (by decide) rfl dX0_meet_43 rfl (ihN rfl) rfl ?_
  exact bnop0 rfl (by decide)
theorem bf_X0_meet_46 : BOKt mt tX0_meet 204 46 b_X0_meet_46 := by
  refine bnop1 ?_
  refine bobj (pc' := 49) rfl dX0_meet_46 rfl (lkl0 lc_251 q1902) (ihN rfl) rfl ?_
  refine bret (pc' := 50) rfl dX0_meet_49 rfl (Or.inl ⟨rfl, rfl⟩) (ihN rfl) rfl ?_
  exact trivial
theorem bf_X0_meet_50 : BOKt mt tX0_meet 204 50 b_X0_meet_50 := by
  refine bplain (pc' := 51) rfl dX0_meet_50 rfl (ihN rfl) rfl ?_
  refine bplain (pc' := 52) rfl dX0_meet_51 rfl (ihN rfl) rfl ?_
  refine bplain (pc' := 53) rfl dX0_meet_52 rfl (ihN rfl) rfl ?_
  refine bcall (pc' := 56) rfl dX0_meet_53 rfl (trivial) (lcv (n := 2) rfl (pvc (lfv mt_X0_sectionAt ⟨by decide, by decide⟩ mok_X0_sectionAt ⟨by decide, by decide⟩ ⟨q1921, ln_391, Or.inl ⟨q1919, Or.inl qs21⟩⟩) (trivial)) (Or.inl (by decide))) (ihN rfl) rfl ?_
  refine bplain (pc' := 58) rfl dX0_meet_56 rfl (ihN rfl) rfl ?_
  refine bplain (pc' := 60) rfl dX0_meet_58 rfl (ihN rfl) rfl ?_
  refine bplain (pc' := 61) rfl dX0_meet_60 rfl (ihN rfl) rfl ?_
  refine bplain (pc' := 62) rfl dX0_meet_61 rfl (ihN rfl) rfl ?_
  refine bplain (pc' := 64) rfl dX0_meet_62 rfl (ihN rfl) rfl ?_
  refine bcall (pc' := 67) rfl dX0_meet_64 rfl (trivial) (lcv (n := 2) rfl (pvc (lfv mt_X0_sectionAt ⟨by decide, by decide⟩ mok_X0_sectionAt ⟨by decide, by decide⟩ ⟨q1921, ln_391, Or.inl ⟨q1919, Or.inl qs21⟩⟩) (trivial)) (Or.inl (by decide))) (ihN rfl) rfl ?_
  refine bcall (pc' := 70) rfl dX0_meet_67 rfl (trivial) (lcv (n := 1) rfl (pvc (lfv mt_X8_meet ⟨by decide, by decide⟩ mok_X8_meet ⟨by decide, by decide⟩ ⟨q1961, ln_392, Or.inl ⟨q1960, Or.inl q1962⟩⟩) (trivial)) (Or.inl (by decide))) (ihN rfl) rfl ?_
  refine bplain (pc' := 72) rfl dX0_meet_70 rfl (ihN rfl) rfl ?_
  refine bplain (pc' := 74) rfl dX0_meet_72 rfl (ihN rfl) rfl ?_
  refine bplain (pc' := 75) rfl dX0_meet_74 rfl (ihN rfl) rfl ?_
  refine bjmp (tg := 92) (pc' := 78) rfl (by decide) (by decide) rfl dX0_meet_75 rfl (ihN rfl) rfl ?_
  refine bplain (pc' := 80) rfl dX0_meet_78 rfl (ihN rfl) rfl ?_
  refine bthr (pc' := 83) rfl dX0_meet_80 rfl (lkf1 (host := "StrideTurns") (by decide) q1944 lf_38) (trivial) (ihN rfl) rfl ?_
  refine bplain (pc' := 85) rfl dX0_meet_83 rfl (ihN rfl) rfl ?_
  refine bthr (pc' := 88) rfl dX0_meet_85 rfl (lkf1 (host := "StrideTurns") (by decide) q1944 lf_38) (trivial) (ihN rfl) rfl ?_
  refine bplain (pc' := 89) rfl dX0_meet_88 rfl (ihN rfl) rfl ?_
  refine bjmp (tg := 99) (pc' := 92) rfl (by decide) (by decide) rfl dX0_meet_89 rfl (ihN rfl) rfl ?_
  exact trivial
theorem bf_X0_meet_92 : BOKt mt tX0_meet 204 92 b_X0_meet_92 := by
  refine bplain (pc' := 94) rfl dX0_meet_92 rfl (ihN rfl) rfl ?_
  refine bplain (pc' := 96) rfl dX0_meet_94 rfl (ihN rfl) rfl ?_
  refine bcall (pc' := 99) rfl dX0_meet_96 rfl (trivial) (lcv (n := 1) rfl (pvc (lfv mt_X8_tells ⟨by decide, by decide⟩ mok_X8_tells ⟨by decide, by decide⟩ ⟨q1953, ln_225, Or.inl ⟨q1952, Or.inl q1954⟩⟩) (trivial)) (Or.inl (by decide))) (ihN rfl) rfl ?_
  exact bnop0 rfl (by decide)
theorem bf_X0_meet_99 : BOKt mt tX0_meet 204 99 b_X0_meet_99 := by
  refine bnop1 ?_
  refine bret (pc' := 100) rfl dX0_meet_99 rfl (Or.inl ⟨rfl, rfl⟩) (ihN rfl) rfl ?_
  exact trivial
theorem tf_X0_meet : ∀ x ∈ tb_X0_meet, BOK mt 204 x.1 x.2 := tb_c mt_X0_meet bf_X0_meet_0 (tb_c mt_X0_meet bf_X0_meet_46 (tb_c mt_X0_meet bf_X0_meet_50 (tb_c mt_X0_meet bf_X0_meet_92 (tb_c mt_X0_meet bf_X0_meet_99 (tb_n)))))
theorem bf_X3_hasPlace_0 : BOKt mt tX3_hasPlace 205 0 b_X3_hasPlace_0 := by
  refine bplain (pc' := 1) rfl dX3_hasPlace_0 rfl (ihN rfl) rfl ?_
  refine bplain (pc' := 3) rfl dX3_hasPlace_1 rfl (ihN rfl) rfl ?_
  refine bplain (pc' := 4) rfl dX3_hasPlace_3 rfl (ihN rfl) rfl ?_
  refine bplain (pc' := 6) rfl dX3_hasPlace_4 rfl (ihN rfl) rfl ?_
  exact bnop0 rfl (by decide)
theorem bf_X3_hasPlace_6 : BOKt mt tX3_hasPlace 205 6 b_X3_hasPlace_6 := by
  refine bplain (pc' := 8) rfl dX3_hasPlace_6 rfl (ihN rfl) rfl ?_
  refine bplain (pc' := 9) rfl dX3_hasPlace_8 rfl (ihN rfl) rfl ?_
  refine bthr (pc' := 12) rfl dX3_hasPlace_9 rfl (lkf0 q2606 lf_157) (trivial) (ihN rfl) rfl ?_
  refine bplain (pc' := 13) rfl dX3_hasPlace_12 rfl (ihN rfl) rfl ?_
  refine bplain (pc' := 14) rfl dX3_hasPlace_13 rfl (ihN rfl) rfl ?_
  refine bplain (pc' := 15) rfl dX3_hasPlace_14 rfl (ihN rfl) rfl ?_
  refine bplain (pc' := 16) rfl dX3_hasPlace_15 rfl (ihN rfl) rfl ?_
  refine bjmp (tg := 49) (pc' := 19) rfl (by decide) (by decide) rfl dX3_hasPlace_16 rfl (ihN rfl) rfl ?_
  refine bplain (pc' := 21) rfl dX3_hasPlace_19 rfl (ihN rfl) rfl ?_
  refine bjmp (tg := 36) (pc' := 24) rfl (by decide) (by decide) rfl dX3_hasPlace_21 rfl (ihN rfl) rfl ?_
  refine bplain (pc' := 25) rfl dX3_hasPlace_24 rfl (ihN rfl) rfl ?_
  refine bplain (pc' := 26) rfl dX3_hasPlace_25 rfl (ihN rfl) rfl ?_
  refine bplain (pc' := 27) rfl dX3_hasPlace_26 rfl (ihN rfl) rfl ?_
  refine bplain (pc' := 29) rfl dX3_hasPlace_27 rfl (ihN rfl) rfl ?_
  refine bcall (pc' := 32) rfl dX3_hasPlace_29 rfl (trivial) (lcv (n := 3) rfl (pvc (lfv mt_X3_placeOf ⟨by decide, by decide⟩ mok_X3_placeOf ⟨by decide, by decide⟩ ⟨q2893, ln_255, Or.inl ⟨q2891, Or.inl qs79⟩⟩) (trivial)) (Or.inl (by decide))) (ihN rfl) rfl ?_
  refine bplain (pc' := 33) rfl dX3_hasPlace_32 rfl (ihN rfl) rfl ?_
  refine bjmp (tg := 40) (pc' := 36) rfl (by decide) (by decide) rfl dX3_hasPlace_33 rfl (ihN rfl) rfl ?_
  exact bnop0 rfl (by decide)
theorem bf_X3_hasPlace_36 : BOKt mt tX3_hasPlace 205 36 b_X3_hasPlace_36 := by
  refine bnop1 ?_
  refine bplain (pc' := 37) rfl dX3_hasPlace_36 rfl (ihN rfl) rfl ?_
  refine bjmp (tg := 41) (pc' := 40) rfl (by decide) (by decide) rfl dX3_hasPlace_37 rfl (ihN rfl) rfl ?_
  exact trivial
theorem bf_X3_hasPlace_40 : BOKt mt tX3_hasPlace 205 40 b_X3_hasPlace_40 := by
  refine bplain (pc' := 41) rfl dX3_hasPlace_40 rfl (ihN rfl) rfl ?_
  exact bnop0 rfl (by decide)
theorem bf_X3_hasPlace_41 : BOKt mt tX3_hasPlace 205 41 b_X3_hasPlace_41 := by
  refine bnop1 ?_
  refine bplain (pc' := 43) rfl dX3_hasPlace_41 rfl (ihN rfl) rfl ?_
  refine bplain (pc' := 46) rfl dX3_hasPlace_43 rfl (ihN rfl) rfl ?_
  refine bjmp (tg := 6) (pc' := 49) rfl (by decide) (by decide) rfl dX3_hasPlace_46 rfl (ihN rfl) rfl ?_
  exact trivial
theorem bf_X3_hasPlace_49 : BOKt mt tX3_hasPlace 205 49 b_X3_hasPlace_49 := by
  refine bplain (pc' := 51) rfl dX3_hasPlace_49 rfl (ihN rfl) rfl ?_
  refine bret (pc' := 52) rfl dX3_hasPlace_51 rfl (Or.inr ⟨rfl, rfl⟩) (ihN rfl) rfl ?_
  exact trivial
theorem tf_X3_hasPlace : ∀ x ∈ tb_X3_hasPlace, BOK mt 205 x.1 x.2 := tb_c mt_X3_hasPlace bf_X3_hasPlace_0 (tb_c mt_X3_hasPlace bf_X3_hasPlace_6 (tb_c mt_X3_hasPlace bf_X3_hasPlace_36 (tb_c mt_X3_hasPlace bf_X3_hasPlace_40 (tb_c mt_X3_hasPlace bf_X3_hasPlace_41 (tb_c mt_X3_hasPlace bf_X3_hasPlace_49 (tb_n))))))
theorem bf_X3_meetOf_0 : BOKt mt tX3_meetOf 206 0 b_X3_meetOf_0 := by
  refine bplain (pc' := 1) rfl dX3_meetOf_0 rfl (ihN rfl) rfl ?_
  refine bplain (pc' := 3) rfl dX3_meetOf_1 rfl (ihN rfl) rfl ?_
  refine bplain (pc' := 4) rfl dX3_meetOf_3 rfl (ihN rfl) rfl ?_
  refine bplain (pc' := 6) rfl dX3_meetOf_4 rfl (ihN rfl) rfl ?_
  refine bplain (pc' := 7) rfl dX3_meetOf_6 rfl (ihN rfl) rfl ?_
  refine bplain (pc' := 9) rfl dX3_meetOf_7 rfl (ihN rfl) rfl ?_
  refine bplain (pc' := 10) rfl dX3_meetOf_9 rfl (ihN rfl) rfl ?_
  refine bplain (pc' := 12) rfl dX3_meetOf_10 rfl (ihN rfl) rfl ?_
  exact bnop0 rfl (by decide)
theorem bf_X3_meetOf_12 : BOKt mt tX3_meetOf 206 12 b_X3_meetOf_12 := by
  refine bnop1 ?_
  refine bplain (pc' := 14) rfl dX3_meetOf_12 rfl (ihN rfl) rfl ?_
  refine bplain (pc' := 15) rfl dX3_meetOf_14 rfl (ihN rfl) rfl ?_
  refine bplain (pc' := 16) rfl dX3_meetOf_15 rfl (ihN rfl) rfl ?_
  refine bcall (pc' := 19) rfl dX3_meetOf_16 rfl (trivial) (lcv (n := 1) rfl (pvc (lfv mt_X3_manyOf ⟨by decide, by decide⟩ mok_X3_manyOf ⟨by decide, by decide⟩ ⟨q2901, ln_225, Or.inl ⟨q2899, Or.inl qs81⟩⟩) (trivial)) (Or.inl (by decide))) (ihN rfl) rfl ?_
  refine bjmp (tg := 92) (pc' := 22) rfl (by decide) (by decide) rfl dX3_meetOf_19 rfl (ihN rfl) rfl ?_
  refine bplain (pc' := 23) rfl dX3_meetOf_22 rfl (ihN rfl) rfl ?_
  refine bplain (pc' := 24) rfl dX3_meetOf_23 rfl (ihN rfl) rfl ?_
  refine bplain (pc' := 25) rfl dX3_meetOf_24 rfl (ihN rfl) rfl ?_
  refine bcall (pc' := 28) rfl dX3_meetOf_25 rfl (trivial) (lcv (n := 2) rfl (pvc (lfv mt_X3_firstOf ⟨by decide, by decide⟩ mok_X3_firstOf ⟨by decide, by decide⟩ ⟨q2889, ln_252, Or.inl ⟨q2887, Or.inl qs78⟩⟩) (trivial)) (Or.inl (by decide))) (ihN rfl) rfl ?_
  refine bplain (pc' := 29) rfl dX3_meetOf_28 rfl (ihN rfl) rfl ?_
  refine bplain (pc' := 30) rfl dX3_meetOf_29 rfl (ihN rfl) rfl ?_
  refine bcall (pc' := 33) rfl dX3_meetOf_30 rfl (trivial) (lcv (n := 1) rfl (pvc (lfv mt_X3_strideOf ⟨by decide, by decide⟩ mok_X3_strideOf ⟨by decide, by decide⟩ ⟨q2897, ln_225, Or.inl ⟨q2895, Or.inl qs80⟩⟩) (trivial)) (Or.inl (by decide))) (ihN rfl) rfl ?_
  refine bplain (pc' := 35) rfl dX3_meetOf_33 rfl (ihN rfl) rfl ?_
  refine bplain (pc' := 36) rfl dX3_meetOf_35 rfl (ihN rfl) rfl ?_
  refine bplain (pc' := 37) rfl dX3_meetOf_36 rfl (ihN rfl) rfl ?_
  refine bplain (pc' := 39) rfl dX3_meetOf_37 rfl (ihN rfl) rfl ?_
  refine bplain (pc' := 40) rfl dX3_meetOf_39 rfl (ihN rfl) rfl ?_
  refine bplain (pc' := 41) rfl dX3_meetOf_40 rfl (ihN rfl) rfl ?_
  refine bplain (pc' := 43) rfl dX3_meetOf_41 rfl (ihN rfl) rfl ?_
  refine bplain (pc' := 45) rfl dX3_meetOf_43 rfl (ihN rfl) rfl ?_
  refine bcall (pc' := 48) rfl dX3_meetOf_45 rfl (trivial) (lcv (n := 3) rfl (pvc (lfv mt_X3_hasPlace ⟨by decide, by decide⟩ mok_X3_hasPlace ⟨by decide, by decide⟩ ⟨q2913, ln_226, Or.inl ⟨q2911, Or.inl qs83⟩⟩) (trivial)) (Or.inl (by decide))) (ihN rfl) rfl ?_
  refine bjmp (tg := 86) (pc' := 51) rfl (by decide) (by decide) rfl dX3_meetOf_48 rfl (ihN rfl) rfl ?_
  refine bplain (pc' := 53) rfl dX3_meetOf_51 rfl (ihN rfl) rfl ?_
  refine bplain (pc' := 54) rfl dX3_meetOf_53 rfl (ihN rfl) rfl ?_
  refine bjmp (tg := 65) (pc' := 57) rfl (by decide) (by decide) rfl dX3_meetOf_54 rfl (ihN rfl) rfl ?_
  refine bplain (pc' := 59) rfl dX3_meetOf_57 rfl (ihN rfl) rfl ?_
  refine bplain (pc' := 61) rfl dX3_meetOf_59 rfl (ihN rfl) rfl ?_
  refine bplain (pc' := 62) rfl dX3_meetOf_61 rfl (ihN rfl) rfl ?_
  refine bjmp (tg := 67) (pc' := 65) rfl (by decide) (by decide) rfl dX3_meetOf_62 rfl (ihN rfl) rfl ?_
  exact trivial
theorem bf_X3_meetOf_65 : BOKt mt tX3_meetOf 206 65 b_X3_meetOf_65 := by
  refine bplain (pc' := 67) rfl dX3_meetOf_65 rfl (ihN rfl) rfl ?_
  exact bnop0 rfl (by decide)
theorem bf_X3_meetOf_67 : BOKt mt tX3_meetOf 206 67 b_X3_meetOf_67 := by
  refine bnop1 ?_
  refine bplain (pc' := 69) rfl dX3_meetOf_67 rfl (ihN rfl) rfl ?_
  refine bplain (pc' := 71) rfl dX3_meetOf_69 rfl (ihN rfl) rfl ?_
  refine bjmp (tg := 79) (pc' := 74) rfl (by decide) (by decide) rfl dX3_meetOf_71 rfl (ihN rfl) rfl ?_
  refine bplain (pc' := 76) rfl dX3_meetOf_74 rfl (ihN rfl) rfl ?_
  refine bjmp (tg := 81) (pc' := 79) rfl (by decide) (by decide) rfl dX3_meetOf_76 rfl (ihN rfl) rfl ?_
  exact trivial
theorem bf_X3_meetOf_79 : BOKt mt tX3_meetOf 206 79 b_X3_meetOf_79 := by
  refine bplain (pc' := 81) rfl dX3_meetOf_79 rfl (ihN rfl) rfl ?_
  exact bnop0 rfl (by decide)
theorem bf_X3_meetOf_81 : BOKt mt tX3_meetOf 206 81 b_X3_meetOf_81 := by
  refine bnop1 ?_
  refine bplain (pc' := 83) rfl dX3_meetOf_81 rfl (ihN rfl) rfl ?_
  refine bplain (pc' := 86) rfl dX3_meetOf_83 rfl (ihN rfl) rfl ?_
  exact bnop0 rfl (by decide)
theorem bf_X3_meetOf_86 : BOKt mt tX3_meetOf 206 86 b_X3_meetOf_86 := by
  refine bnop1 ?_
  refine bplain (pc' := 89) rfl dX3_meetOf_86 rfl (ihN rfl) rfl ?_
  refine bjmp (tg := 12) (pc' := 92) rfl (by decide) (by decide) rfl dX3_meetOf_89 rfl (ihN rfl) rfl ?_
  exact trivial
theorem bf_X3_meetOf_92 : BOKt mt tX3_meetOf 206 92 b_X3_meetOf_92 := by
  refine bplain (pc' := 94) rfl dX3_meetOf_92 rfl (ihN rfl) rfl ?_
  refine bjmp (tg := 102) (pc' := 97) rfl (by decide) (by decide) rfl dX3_meetOf_94 rfl (ihN rfl) rfl ?_
  refine bplain (pc' := 99) rfl dX3_meetOf_97 rfl (ihN rfl) rfl ?_
  refine bjmp (tg := 132) (pc' := 102) rfl (by decide) (by decide) rfl dX3_meetOf_99 rfl (ihN rfl) rfl ?_
  exact trivial
theorem bf_X3_meetOf_102 : BOKt mt tX3_meetOf 206 102 b_X3_meetOf_102 := by
  refine bplain (pc' := 104) rfl dX3_meetOf_102 rfl (ihN rfl) rfl ?_
  refine bplain (pc' := 105) rfl dX3_meetOf_104 rfl (ihN rfl) rfl ?_
  refine bjmp (tg := 113) (pc' := 108) rfl (by decide) (by decide) rfl dX3_meetOf_105 rfl (ihN rfl) rfl ?_
  refine bplain (pc' := 110) rfl dX3_meetOf_108 rfl (ihN rfl) rfl ?_
  refine bjmp (tg := 132) (pc' := 113) rfl (by decide) (by decide) rfl dX3_meetOf_110 rfl (ihN rfl) rfl ?_
  exact trivial
theorem bf_X3_meetOf_113 : BOKt mt tX3_meetOf 206 113 b_X3_meetOf_113 := by
  refine bplain (pc' := 115) rfl dX3_meetOf_113 rfl (ihN rfl) rfl ?_
  refine bplain (pc' := 116) rfl dX3_meetOf_115 rfl (ihN rfl) rfl ?_
  refine bjmp (tg := 124) (pc' := 119) rfl (by decide) (by decide) rfl dX3_meetOf_116 rfl (ihN rfl) rfl ?_
  refine bplain (pc' := 121) rfl dX3_meetOf_119 rfl (ihN rfl) rfl ?_
  refine bjmp (tg := 132) (pc' := 124) rfl (by decide) (by decide) rfl dX3_meetOf_121 rfl (ihN rfl) rfl ?_
  exact trivial
theorem bf_X3_meetOf_124 : BOKt mt tX3_meetOf 206 124 b_X3_meetOf_124 := by
  refine bplain (pc' := 125) rfl dX3_meetOf_124 rfl (ihN rfl) rfl ?_
  refine bplain (pc' := 126) rfl dX3_meetOf_125 rfl (ihN rfl) rfl ?_
  refine bcall (pc' := 129) rfl dX3_meetOf_126 rfl (trivial) (lcv (n := 1) rfl (pvc (lfv mt_X3_manyOf ⟨by decide, by decide⟩ mok_X3_manyOf ⟨by decide, by decide⟩ ⟨q2901, ln_225, Or.inl ⟨q2899, Or.inl qs81⟩⟩) (trivial)) (Or.inl (by decide))) (ihN rfl) rfl ?_
  refine bplain (pc' := 131) rfl dX3_meetOf_129 rfl (ihN rfl) rfl ?_
  refine bplain (pc' := 132) rfl dX3_meetOf_131 rfl (ihN rfl) rfl ?_
  exact bnop0 rfl (by decide)
theorem bf_X3_meetOf_132 : BOKt mt tX3_meetOf 206 132 b_X3_meetOf_132 := by
  refine bnop1 ?_
  refine bret (pc' := 133) rfl dX3_meetOf_132 rfl (Or.inl ⟨rfl, rfl⟩) (ihN rfl) rfl ?_
  exact trivial
theorem tf_X3_meetOf : ∀ x ∈ tb_X3_meetOf, BOK mt 206 x.1 x.2 := tb_c mt_X3_meetOf bf_X3_meetOf_0 (tb_c mt_X3_meetOf bf_X3_meetOf_12 (tb_c mt_X3_meetOf bf_X3_meetOf_65 (tb_c mt_X3_meetOf bf_X3_meetOf_67 (tb_c mt_X3_meetOf bf_X3_meetOf_79 (tb_c mt_X3_meetOf bf_X3_meetOf_81 (tb_c mt_X3_meetOf bf_X3_meetOf_86 (tb_c mt_X3_meetOf bf_X3_meetOf_92 (tb_c mt_X3_meetOf bf_X3_meetOf_102 (tb_c mt_X3_meetOf bf_X3_meetOf_113 (tb_c mt_X3_meetOf bf_X3_meetOf_124 (tb_c mt_X3_meetOf bf_X3_meetOf_132 (tb_n))))))))))))
theorem bf_X3_meet_0 : BOKt mt tX3_meet 207 0 b_X3_meet_0 := by
  refine bplain (pc' := 1) rfl dX3_meet_0 rfl (ihN rfl) rfl ?_
  refine bplain (pc' := 2) rfl dX3_meet_1 rfl (ihN rfl) rfl ?_
  refine bplain (pc' := 3) rfl dX3_meet_2 rfl (ihN rfl) rfl ?_
  refine bcall (pc' := 6) rfl dX3_meet_3 rfl (trivial) (lcv (n := 2) rfl (pvc (lfv mt_X3_isSection ⟨by decide, by decide⟩ mok_X3_isSection ⟨by decide, by decide⟩ ⟨q2881, ln_339, Or.inl ⟨q2879, Or.inl qs76⟩⟩) (trivial)) (Or.inl (by decide))) (ihN rfl) rfl ?_
  refine bjmp (tg := 43) (pc' := 9) rfl (by decide) (by decide) rfl dX3_meet_6 rfl (ihN rfl) rfl ?_
  refine bplain (pc' := 10) rfl dX3_meet_9 rfl (ihN rfl) rfl ?_
  refine bplain (pc' := 11) rfl dX3_meet_10 rfl (ihN rfl) rfl ?_
  refine bplain (pc' := 13) rfl dX3_meet_11 rfl (ihN rfl) rfl ?_
  refine bcall (pc' := 16) rfl dX3_meet_13 rfl (trivial) (lcv (n := 2) rfl (pvc (lfv mt_X3_isSection ⟨by decide, by decide⟩ mok_X3_isSection ⟨by decide, by decide⟩ ⟨q2881, ln_339, Or.inl ⟨q2879, Or.inl qs76⟩⟩) (trivial)) (Or.inl (by decide))) (ihN rfl) rfl ?_
  refine bjmp (tg := 43) (pc' := 19) rfl (by decide) (by decide) rfl dX3_meet_16 rfl (ihN rfl) rfl ?_
  refine bplain (pc' := 21) rfl dX3_meet_19 rfl (ihN rfl) rfl ?_
  refine bplain (pc' := 22) rfl dX3_meet_21 rfl (ihN rfl) rfl ?_
  refine bplain (pc' := 23) rfl dX3_meet_22 rfl (ihN rfl) rfl ?_
  refine bcall (pc' := 26) rfl dX3_meet_23 rfl (trivial) (lcs (l := q2747) mt_X3_in ⟨by decide, by decide⟩ mok_X3_in rfl ln_226 (Or.inl q2746)) (ihN rfl) rfl ?_
  refine bjmp (tg := 43) (pc' := 29) rfl (by decide) (by decide) rfl dX3_meet_26 rfl (ihN rfl) rfl ?_
  refine bplain (pc' := 30) rfl dX3_meet_29 rfl (ihN rfl) rfl ?_
  refine bplain (pc' := 31) rfl dX3_meet_30 rfl (ihN rfl) rfl ?_
  refine bplain (pc' := 32) rfl dX3_meet_31 rfl (ihN rfl) rfl ?_
  refine bplain (pc' := 33) rfl dX3_meet_32 rfl (ihN rfl) rfl ?_
  refine bplain (pc' := 35) rfl dX3_meet_33 rfl (ihN rfl) rfl ?_
  refine bplain (pc' := 37) rfl dX3_meet_35 rfl (ihN rfl) rfl ?_
  refine bcall (pc' := 40) rfl dX3_meet_37 rfl (trivial) (lcv (n := 5) rfl (pvc (lfv mt_X3_meetOf ⟨by decide, by decide⟩ mok_X3_meetOf ⟨by decide, by decide⟩ ⟨q2909, ln_385, Or.inl ⟨q2907, Or.inl qs82⟩⟩) (trivial)) (Or.inl (by decide))) (ihN rfl) rfl ?_
  refine bjmp (tg := 45) (pc' := 43) rfl (by decide) (by decide) rfl dX3_meet_40 rfl (ihN rfl) rfl ?_
  exact trivial
theorem bf_X3_meet_43 : BOKt mt tX3_meet 207 43 b_X3_meet_43 := by
  refine bnop1 ?_
  refine bobj (pc' := 45) rfl dX3_meet_43 rfl (lkl0 lc_251 q2783) (ihN rfl) rfl ?_
  exact bnop0 rfl (by decide)
theorem bf_X3_meet_45 : BOKt mt tX3_meet 207 45 b_X3_meet_45 := by
  refine bnop1 ?_
  refine bret (pc' := 46) rfl dX3_meet_45 rfl (Or.inl ⟨rfl, rfl⟩) (ihN rfl) rfl ?_
  exact trivial
theorem tf_X3_meet : ∀ x ∈ tb_X3_meet, BOK mt 207 x.1 x.2 := tb_c mt_X3_meet bf_X3_meet_0 (tb_c mt_X3_meet bf_X3_meet_43 (tb_c mt_X3_meet bf_X3_meet_45 (tb_n)))
theorem bf_J34_init_0 : BOKt mt tJ34_init 208 0 b_J34_init_0 := by
  refine bplain (pc' := 1) rfl dJ34_init_0 rfl (ihN rfl) rfl ?_
  refine bcall (pc' := 4) rfl dJ34_init_1 rfl (trivial) (lci mt_J1_init ⟨by decide, by decide⟩ mok_J1_init rfl rfl rfl ln_0 q201 rfl (Or.inl q1987)) (ihN rfl) rfl ?_
  refine bplain (pc' := 5) rfl dJ34_init_4 rfl (ihN rfl) rfl ?_
  refine bplain (pc' := 6) rfl dJ34_init_5 rfl (ihN rfl) rfl ?_
  refine bobj (pc' := 9) rfl dJ34_init_6 rfl (⟨lkf0 q1993 lf_60, lkp0 lp_393⟩) (ihN rfl) rfl ?_
  refine bplain (pc' := 10) rfl dJ34_init_9 rfl (ihN rfl) rfl ?_
  refine bplain (pc' := 11) rfl dJ34_init_10 rfl (ihN rfl) rfl ?_
  refine bobj (pc' := 14) rfl dJ34_init_11 rfl (⟨lkf0 q1992 lf_76, lkp1 rfl lp_394⟩) (ihN rfl) rfl ?_
  refine bret (pc' := 15) rfl dJ34_init_14 rfl (rfl) (ihN rfl) rfl ?_
  exact trivial
theorem tf_J34_init : ∀ x ∈ tb_J34_init, BOK mt 208 x.1 x.2 := tb_c mt_J34_init bf_J34_init_0 (tb_n)
theorem bf_X6_looks_0 : BOKt mt tX6_looks 209 0 b_X6_looks_0 := by
  refine bplain (pc' := 1) rfl dX6_looks_0 rfl (ihN rfl) rfl ?_
  refine bplain (pc' := 2) rfl dX6_looks_1 rfl (ihN rfl) rfl ?_
  refine bjmp (tg := 17) (pc' := 5) rfl (by decide) (by decide) rfl dX6_looks_2 rfl (ihN rfl) rfl ?_
  refine bplain (pc' := 6) rfl dX6_looks_5 rfl (ihN rfl) rfl ?_
  refine bthr (pc' := 9) rfl dX6_looks_6 rfl (lkf0 q1694 lf_322) (trivial) (ihN rfl) rfl ?_
  refine bthr (pc' := 12) rfl dX6_looks_9 rfl (lkf1 (host := "StrideTurns") (by decide) q251 lf_3) (trivial) (ihN rfl) rfl ?_
  refine bplain (pc' := 14) rfl dX6_looks_12 rfl (ihN rfl) rfl ?_
  refine bjmp (tg := 21) (pc' := 17) rfl (by decide) (by decide) rfl dX6_looks_14 rfl (ihN rfl) rfl ?_
  exact bnop0 rfl (by decide)
theorem bf_X6_looks_17 : BOKt mt tX6_looks 209 17 b_X6_looks_17 := by
  refine bnop1 ?_
  refine bplain (pc' := 18) rfl dX6_looks_17 rfl (ihN rfl) rfl ?_
  refine bjmp (tg := 22) (pc' := 21) rfl (by decide) (by decide) rfl dX6_looks_18 rfl (ihN rfl) rfl ?_
  exact trivial
theorem bf_X6_looks_21 : BOKt mt tX6_looks 209 21 b_X6_looks_21 := by
  refine bplain (pc' := 22) rfl dX6_looks_21 rfl (ihN rfl) rfl ?_
  exact bnop0 rfl (by decide)
theorem bf_X6_looks_22 : BOKt mt tX6_looks 209 22 b_X6_looks_22 := by
  refine bnop1 ?_
  refine bret (pc' := 23) rfl dX6_looks_22 rfl (Or.inr ⟨rfl, rfl⟩) (ihN rfl) rfl ?_
  exact trivial
theorem tf_X6_looks : ∀ x ∈ tb_X6_looks, BOK mt 209 x.1 x.2 := tb_c mt_X6_looks bf_X6_looks_0 (tb_c mt_X6_looks bf_X6_looks_17 (tb_c mt_X6_looks bf_X6_looks_21 (tb_c mt_X6_looks bf_X6_looks_22 (tb_n))))
theorem bf_X9_init_0 : BOKt mt tX9_init 210 0 b_X9_init_0 := by
  refine bplain (pc' := 1) rfl dX9_init_0 rfl (ihN rfl) rfl ?_
  refine bcall (pc' := 4) rfl dX9_init_1 rfl (trivial) (lco rfl ⟨q2024, q193, q194⟩) (ihN rfl) rfl ?_
  refine bplain (pc' := 5) rfl dX9_init_4 rfl (ihN rfl) rfl ?_
  refine bplain (pc' := 6) rfl dX9_init_5 rfl (ihN rfl) rfl ?_
  refine bobj (pc' := 9) rfl dX9_init_6 rfl (⟨lkf0 q2025 lf_395, lkp1 rfl lp_396⟩) (ihN rfl) rfl ?_
  refine bret (pc' := 10) rfl dX9_init_9 rfl (rfl) (ihN rfl) rfl ?_
  exact trivial
theorem tf_X9_init : ∀ x ∈ tb_X9_init, BOK mt 210 x.1 x.2 := tb_c mt_X9_init bf_X9_init_0 (tb_n)
