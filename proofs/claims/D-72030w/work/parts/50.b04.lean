/-! BLOCKS' FACTS 4 (by gen/bok.py) -/
set_option maxRecDepth 100000
theorem bf_X3_verdict_0 : BOKt mt tX3_verdict 281 0 b_X3_verdict_0 := by
  refine bplain (pc' := 1) rfl dX3_verdict_0 rfl (ihN rfl) rfl ?_
  refine bcall (pc' := 4) rfl dX3_verdict_1 rfl (trivial) (lcs (l := q2744) mt_X3_isRow ⟨by decide, by decide⟩ mok_X3_isRow rfl ln_222 (Or.inl q2743)) (ihN rfl) rfl ?_
  refine bjmp (tg := 15) (pc' := 7) rfl (by decide) (by decide) rfl dX3_verdict_4 rfl (ihN rfl) rfl ?_
  refine bplain (pc' := 8) rfl dX3_verdict_7 rfl (ihN rfl) rfl ?_
  refine bplain (pc' := 9) rfl dX3_verdict_8 rfl (ihN rfl) rfl ?_
  refine bcall (pc' := 12) rfl dX3_verdict_9 rfl (trivial) (lcv (n := 1) rfl (pvc (lfv mt_X3_verdictOf ⟨by decide, by decide⟩ mok_X3_verdictOf ⟨by decide, by decide⟩ ⟨q3007, ln_225, Or.inl ⟨q3005, Or.inl qs99⟩⟩) (trivial)) (Or.inl (by decide))) (ihN rfl) rfl ?_
  refine bjmp (tg := 17) (pc' := 15) rfl (by decide) (by decide) rfl dX3_verdict_12 rfl (ihN rfl) rfl ?_
  exact trivial
theorem bf_X3_verdict_15 : BOKt mt tX3_verdict 281 15 b_X3_verdict_15 := by
  refine bplain (pc' := 17) rfl dX3_verdict_15 rfl (ihN rfl) rfl ?_
  exact bnop0 rfl (by decide)
theorem bf_X3_verdict_17 : BOKt mt tX3_verdict 281 17 b_X3_verdict_17 := by
  refine bnop1 ?_
  refine bret (pc' := 18) rfl dX3_verdict_17 rfl (Or.inl ⟨rfl, rfl⟩) (ihN rfl) rfl ?_
  exact trivial
theorem tf_X3_verdict : ∀ x ∈ tb_X3_verdict, BOK mt 281 x.1 x.2 := tb_c mt_X3_verdict bf_X3_verdict_0 (tb_c mt_X3_verdict bf_X3_verdict_15 (tb_c mt_X3_verdict bf_X3_verdict_17 (tb_n)))
theorem bf_X0_would_0 : BOKt mt tX0_would 282 0 b_X0_would_0 := by
  refine bplain (pc' := 1) rfl dX0_would_0 rfl (ihN rfl) rfl ?_
  refine bcall (pc' := 4) rfl dX0_would_1 rfl (trivial) (lcs (l := q1210) mt_X0_isRow ⟨by decide, by decide⟩ mok_X0_isRow rfl ln_222 (Or.inl q1209)) (ihN rfl) rfl ?_
  refine bjmp (tg := 19) (pc' := 7) rfl (by decide) (by decide) rfl dX0_would_4 rfl (ihN rfl) rfl ?_
  refine bplain (pc' := 8) rfl dX0_would_7 rfl (ihN rfl) rfl ?_
  refine bplain (pc' := 9) rfl dX0_would_8 rfl (ihN rfl) rfl ?_
  refine bplain (pc' := 10) rfl dX0_would_9 rfl (ihN rfl) rfl ?_
  refine bobj (pc' := 13) rfl dX0_would_10 rfl (lkq0 lc_377 q1897) (ihN rfl) rfl ?_
  refine bcall (pc' := 16) rfl dX0_would_13 rfl (trivial) (lcs (l := q1214) mt_X0_in ⟨by decide, by decide⟩ mok_X0_in rfl ln_210 (Or.inl q1213)) (ihN rfl) rfl ?_
  refine bjmp (tg := 22) (pc' := 19) rfl (by decide) (by decide) rfl dX0_would_16 rfl (ihN rfl) rfl ?_
  exact bnop0 rfl (by decide)
theorem bf_X0_would_19 : BOKt mt tX0_would 282 19 b_X0_would_19 := by
  refine bnop1 ?_
  refine bplain (pc' := 21) rfl dX0_would_19 rfl (ihN rfl) rfl ?_
  refine bret (pc' := 22) rfl dX0_would_21 rfl (Or.inl ⟨rfl, rfl⟩) (ihN rfl) rfl ?_
  exact trivial
theorem bf_X0_would_22 : BOKt mt tX0_would 282 22 b_X0_would_22 := by
  refine bplain (pc' := 23) rfl dX0_would_22 rfl (ihN rfl) rfl ?_
  refine bthr (pc' := 26) rfl dX0_would_23 rfl (lkf0 q1112 lf_113) (trivial) (ihN rfl) rfl ?_
  refine bplain (pc' := 27) rfl dX0_would_26 rfl (ihN rfl) rfl ?_
  refine bplain (pc' := 28) rfl dX0_would_27 rfl (ihN rfl) rfl ?_
  refine bjmp (tg := 37) (pc' := 31) rfl (by decide) (by decide) rfl dX0_would_28 rfl (ihN rfl) rfl ?_
  refine bplain (pc' := 32) rfl dX0_would_31 rfl (ihN rfl) rfl ?_
  refine bplain (pc' := 33) rfl dX0_would_32 rfl (ihN rfl) rfl ?_
  refine bcall (pc' := 36) rfl dX0_would_33 rfl (trivial) (lcv (n := 1) rfl (pvc (lfv mt_X0_finds ⟨by decide, by decide⟩ mok_X0_finds ⟨by decide, by decide⟩ ⟨q1248, ln_225, Or.inl ⟨q1246, Or.inl qs4⟩⟩) (trivial)) (Or.inl (by decide))) (ihN rfl) rfl ?_
  refine bret (pc' := 37) rfl dX0_would_36 rfl (Or.inl ⟨rfl, rfl⟩) (ihN rfl) rfl ?_
  exact trivial
theorem bf_X0_would_37 : BOKt mt tX0_would 282 37 b_X0_would_37 := by
  refine bplain (pc' := 38) rfl dX0_would_37 rfl (ihN rfl) rfl ?_
  refine bthr (pc' := 41) rfl dX0_would_38 rfl (lkf0 q1112 lf_113) (trivial) (ihN rfl) rfl ?_
  refine bplain (pc' := 42) rfl dX0_would_41 rfl (ihN rfl) rfl ?_
  refine bplain (pc' := 43) rfl dX0_would_42 rfl (ihN rfl) rfl ?_
  refine bcall (pc' := 46) rfl dX0_would_43 rfl (trivial) (lcv (n := 0) rfl (pvc (lfv mt_X4_isNumbers ⟨by decide, by decide⟩ mok_X4_isNumbers ⟨by decide, by decide⟩ ⟨q1858, ln_30, Or.inl ⟨q1857, Or.inl q1859⟩⟩) (trivial)) (Or.inl (by decide))) (ihN rfl) rfl ?_
  refine bjmp (tg := 52) (pc' := 49) rfl (by decide) (by decide) rfl dX0_would_46 rfl (ihN rfl) rfl ?_
  refine bplain (pc' := 51) rfl dX0_would_49 rfl (ihN rfl) rfl ?_
  refine bret (pc' := 52) rfl dX0_would_51 rfl (Or.inl ⟨rfl, rfl⟩) (ihN rfl) rfl ?_
  exact trivial
theorem bf_X0_would_52 : BOKt mt tX0_would 282 52 b_X0_would_52 := by
  refine bplain (pc' := 53) rfl dX0_would_52 rfl (ihN rfl) rfl ?_
  refine bcall (pc' := 56) rfl dX0_would_53 rfl (trivial) (lcv (n := 0) rfl (pvc (lfv mt_X0_knows ⟨by decide, by decide⟩ mok_X0_knows ⟨by decide, by decide⟩ ⟨q2223, ln_0, Or.inl ⟨q2221, Or.inl qs24⟩⟩) (trivial)) (Or.inl (by decide))) (ihN rfl) rfl ?_
  refine bplain (pc' := 57) rfl dX0_would_56 rfl (ihN rfl) rfl ?_
  refine bplain (pc' := 58) rfl dX0_would_57 rfl (ihN rfl) rfl ?_
  refine bplain (pc' := 59) rfl dX0_would_58 rfl (ihN rfl) rfl ?_
  refine bcall (pc' := 62) rfl dX0_would_59 rfl (trivial) (lcv (n := 2) rfl (pvc (lfv mt_X0_verdictBy ⟨by decide, by decide⟩ mok_X0_verdictBy ⟨by decide, by decide⟩ ⟨q2300, ln_252, Or.inl ⟨q2298, Or.inl qs31⟩⟩) (trivial)) (Or.inl (by decide))) (ihN rfl) rfl ?_
  refine bret (pc' := 63) rfl dX0_would_62 rfl (Or.inl ⟨rfl, rfl⟩) (ihN rfl) rfl ?_
  exact trivial
theorem tf_X0_would : ∀ x ∈ tb_X0_would, BOK mt 282 x.1 x.2 := tb_c mt_X0_would bf_X0_would_0 (tb_c mt_X0_would bf_X0_would_19 (tb_c mt_X0_would bf_X0_would_22 (tb_c mt_X0_would bf_X0_would_37 (tb_c mt_X0_would bf_X0_would_52 (tb_n)))))
theorem bf_X3_would_0 : BOKt mt tX3_would 283 0 b_X3_would_0 := by
  refine bplain (pc' := 1) rfl dX3_would_0 rfl (ihN rfl) rfl ?_
  refine bcall (pc' := 4) rfl dX3_would_1 rfl (trivial) (lcs (l := q2744) mt_X3_isRow ⟨by decide, by decide⟩ mok_X3_isRow rfl ln_222 (Or.inl q2743)) (ihN rfl) rfl ?_
  refine bjmp (tg := 16) (pc' := 7) rfl (by decide) (by decide) rfl dX3_would_4 rfl (ihN rfl) rfl ?_
  refine bplain (pc' := 8) rfl dX3_would_7 rfl (ihN rfl) rfl ?_
  refine bplain (pc' := 9) rfl dX3_would_8 rfl (ihN rfl) rfl ?_
  refine bplain (pc' := 10) rfl dX3_would_9 rfl (ihN rfl) rfl ?_
  refine bcall (pc' := 13) rfl dX3_would_10 rfl (trivial) (lcs (l := q2747) mt_X3_in ⟨by decide, by decide⟩ mok_X3_in rfl ln_226 (Or.inl q2746)) (ihN rfl) rfl ?_
  refine bjmp (tg := 19) (pc' := 16) rfl (by decide) (by decide) rfl dX3_would_13 rfl (ihN rfl) rfl ?_
  exact bnop0 rfl (by decide)
theorem bf_X3_would_16 : BOKt mt tX3_would 283 16 b_X3_would_16 := by
  refine bnop1 ?_
  refine bplain (pc' := 18) rfl dX3_would_16 rfl (ihN rfl) rfl ?_
  refine bret (pc' := 19) rfl dX3_would_18 rfl (Or.inl ⟨rfl, rfl⟩) (ihN rfl) rfl ?_
  exact trivial
theorem bf_X3_would_19 : BOKt mt tX3_would 283 19 b_X3_would_19 := by
  refine bplain (pc' := 20) rfl dX3_would_19 rfl (ihN rfl) rfl ?_
  refine bthr (pc' := 23) rfl dX3_would_20 rfl (lkf0 q2597 lf_145) (trivial) (ihN rfl) rfl ?_
  refine bplain (pc' := 24) rfl dX3_would_23 rfl (ihN rfl) rfl ?_
  refine bplain (pc' := 25) rfl dX3_would_24 rfl (ihN rfl) rfl ?_
  refine bplain (pc' := 26) rfl dX3_would_25 rfl (ihN rfl) rfl ?_
  refine bjmp (tg := 37) (pc' := 29) rfl (by decide) (by decide) rfl dX3_would_26 rfl (ihN rfl) rfl ?_
  refine bplain (pc' := 30) rfl dX3_would_29 rfl (ihN rfl) rfl ?_
  refine bplain (pc' := 31) rfl dX3_would_30 rfl (ihN rfl) rfl ?_
  refine bcall (pc' := 34) rfl dX3_would_31 rfl (trivial) (lcv (n := 1) rfl (pvc (lfv mt_X3_meets ⟨by decide, by decide⟩ mok_X3_meets ⟨by decide, by decide⟩ ⟨q2751, ln_225, Or.inl ⟨q2749, Or.inl qs63⟩⟩) (trivial)) (Or.inl (by decide))) (ihN rfl) rfl ?_
  refine bjmp (tg := 59) (pc' := 37) rfl (by decide) (by decide) rfl dX3_would_34 rfl (ihN rfl) rfl ?_
  exact trivial
theorem bf_X3_would_37 : BOKt mt tX3_would 283 37 b_X3_would_37 := by
  refine bplain (pc' := 38) rfl dX3_would_37 rfl (ihN rfl) rfl ?_
  refine bthr (pc' := 41) rfl dX3_would_38 rfl (lkf0 q2597 lf_145) (trivial) (ihN rfl) rfl ?_
  refine bplain (pc' := 42) rfl dX3_would_41 rfl (ihN rfl) rfl ?_
  refine bplain (pc' := 43) rfl dX3_would_42 rfl (ihN rfl) rfl ?_
  refine bplain (pc' := 44) rfl dX3_would_43 rfl (ihN rfl) rfl ?_
  refine bjmp (tg := 52) (pc' := 47) rfl (by decide) (by decide) rfl dX3_would_44 rfl (ihN rfl) rfl ?_
  refine bplain (pc' := 49) rfl dX3_would_47 rfl (ihN rfl) rfl ?_
  refine bjmp (tg := 59) (pc' := 52) rfl (by decide) (by decide) rfl dX3_would_49 rfl (ihN rfl) rfl ?_
  exact trivial
theorem bf_X3_would_52 : BOKt mt tX3_would 283 52 b_X3_would_52 := by
  refine bplain (pc' := 53) rfl dX3_would_52 rfl (ihN rfl) rfl ?_
  refine bplain (pc' := 54) rfl dX3_would_53 rfl (ihN rfl) rfl ?_
  refine bplain (pc' := 55) rfl dX3_would_54 rfl (ihN rfl) rfl ?_
  refine bplain (pc' := 56) rfl dX3_would_55 rfl (ihN rfl) rfl ?_
  refine bcall (pc' := 59) rfl dX3_would_56 rfl (trivial) (lcv (n := 3) rfl (pvc (lfv mt_X3_verdictAs ⟨by decide, by decide⟩ mok_X3_verdictAs ⟨by decide, by decide⟩ ⟨q3011, ln_255, Or.inl ⟨q3009, Or.inl qs100⟩⟩) (trivial)) (Or.inl (by decide))) (ihN rfl) rfl ?_
  exact bnop0 rfl (by decide)
theorem bf_X3_would_59 : BOKt mt tX3_would 283 59 b_X3_would_59 := by
  refine bnop1 ?_
  refine bret (pc' := 60) rfl dX3_would_59 rfl (Or.inl ⟨rfl, rfl⟩) (ihN rfl) rfl ?_
  exact trivial
theorem tf_X3_would : ∀ x ∈ tb_X3_would, BOK mt 283 x.1 x.2 := tb_c mt_X3_would bf_X3_would_0 (tb_c mt_X3_would bf_X3_would_16 (tb_c mt_X3_would bf_X3_would_19 (tb_c mt_X3_would bf_X3_would_37 (tb_c mt_X3_would bf_X3_would_52 (tb_c mt_X3_would bf_X3_would_59 (tb_n))))))
theorem bf_X0_lastOf_0 : BOKt mt tX0_lastOf 284 0 b_X0_lastOf_0 := by
  refine bplain (pc' := 2) rfl dX0_lastOf_0 rfl (ihN rfl) rfl ?_
  refine bplain (pc' := 3) rfl dX0_lastOf_2 rfl (ihN rfl) rfl ?_
  refine bplain (pc' := 4) rfl dX0_lastOf_3 rfl (ihN rfl) rfl ?_
  refine bplain (pc' := 6) rfl dX0_lastOf_4 rfl (ihN rfl) rfl ?_
  exact bnop0 rfl (by decide)
theorem bf_X0_lastOf_6 : BOKt mt tX0_lastOf 284 6 b_X0_lastOf_6 := by
  refine bnop1 ?_
  refine bplain (pc' := 8) rfl dX0_lastOf_6 rfl (ihN rfl) rfl ?_
  refine bjmp (tg := 38) (pc' := 11) rfl (by decide) (by decide) rfl dX0_lastOf_8 rfl (ihN rfl) rfl ?_
  refine bplain (pc' := 12) rfl dX0_lastOf_11 rfl (ihN rfl) rfl ?_
  refine bthr (pc' := 15) rfl dX0_lastOf_12 rfl (lkf0 q1122 lf_122) (trivial) (ihN rfl) rfl ?_
  refine bplain (pc' := 16) rfl dX0_lastOf_15 rfl (ihN rfl) rfl ?_
  refine bplain (pc' := 17) rfl dX0_lastOf_16 rfl (ihN rfl) rfl ?_
  refine bplain (pc' := 19) rfl dX0_lastOf_17 rfl (ihN rfl) rfl ?_
  refine bcall (pc' := 22) rfl dX0_lastOf_19 rfl (trivial) (lcs (l := q2243) mt_X0_setAt ⟨by decide, by decide⟩ mok_X0_setAt rfl ln_255 (Or.inl q2242)) (ihN rfl) rfl ?_
  refine bplain (pc' := 23) rfl dX0_lastOf_22 rfl (ihN rfl) rfl ?_
  refine bplain (pc' := 24) rfl dX0_lastOf_23 rfl (ihN rfl) rfl ?_
  refine bplain (pc' := 25) rfl dX0_lastOf_24 rfl (ihN rfl) rfl ?_
  refine bplain (pc' := 26) rfl dX0_lastOf_25 rfl (ihN rfl) rfl ?_
  refine bplain (pc' := 27) rfl dX0_lastOf_26 rfl (ihN rfl) rfl ?_
  refine bplain (pc' := 28) rfl dX0_lastOf_27 rfl (ihN rfl) rfl ?_
  refine bplain (pc' := 29) rfl dX0_lastOf_28 rfl (ihN rfl) rfl ?_
  refine bjmp (tg := 38) (pc' := 32) rfl (by decide) (by decide) rfl dX0_lastOf_29 rfl (ihN rfl) rfl ?_
  refine bplain (pc' := 35) rfl dX0_lastOf_32 rfl (ihN rfl) rfl ?_
  refine bjmp (tg := 6) (pc' := 38) rfl (by decide) (by decide) rfl dX0_lastOf_35 rfl (ihN rfl) rfl ?_
  exact trivial
theorem bf_X0_lastOf_38 : BOKt mt tX0_lastOf 284 38 b_X0_lastOf_38 := by
  refine bnop1 ?_
  refine bplain (pc' := 40) rfl dX0_lastOf_38 rfl (ihN rfl) rfl ?_
  refine bret (pc' := 41) rfl dX0_lastOf_40 rfl (Or.inl ⟨rfl, rfl⟩) (ihN rfl) rfl ?_
  exact trivial
theorem tf_X0_lastOf : ∀ x ∈ tb_X0_lastOf, BOK mt 284 x.1 x.2 := tb_c mt_X0_lastOf bf_X0_lastOf_0 (tb_c mt_X0_lastOf bf_X0_lastOf_6 (tb_c mt_X0_lastOf bf_X0_lastOf_38 (tb_n)))
theorem bf_X0_witnessBy_0 : BOKt mt tX0_witnessBy 285 0 b_X0_witnessBy_0 := by
  refine bplain (pc' := 1) rfl dX0_witnessBy_0 rfl (ihN rfl) rfl ?_
  refine bplain (pc' := 2) rfl dX0_witnessBy_1 rfl (ihN rfl) rfl ?_
  refine bcall (pc' := 5) rfl dX0_witnessBy_2 rfl (trivial) (lcv (n := 1) rfl (pvc (lfv mt_X0_waits ⟨by decide, by decide⟩ mok_X0_waits ⟨by decide, by decide⟩ ⟨q2318, ln_225, Or.inl ⟨q2316, Or.inl qs34⟩⟩) (trivial)) (Or.inl (by decide))) (ihN rfl) rfl ?_
  refine bplain (pc' := 6) rfl dX0_witnessBy_5 rfl (ihN rfl) rfl ?_
  refine bplain (pc' := 7) rfl dX0_witnessBy_6 rfl (ihN rfl) rfl ?_
  refine bplain (pc' := 8) rfl dX0_witnessBy_7 rfl (ihN rfl) rfl ?_
  refine bjmp (tg := 16) (pc' := 11) rfl (by decide) (by decide) rfl dX0_witnessBy_8 rfl (ihN rfl) rfl ?_
  refine bplain (pc' := 12) rfl dX0_witnessBy_11 rfl (ihN rfl) rfl ?_
  refine bplain (pc' := 13) rfl dX0_witnessBy_12 rfl (ihN rfl) rfl ?_
  refine bjmp (tg := 18) (pc' := 16) rfl (by decide) (by decide) rfl dX0_witnessBy_13 rfl (ihN rfl) rfl ?_
  exact bnop0 rfl (by decide)
theorem bf_X0_witnessBy_16 : BOKt mt tX0_witnessBy 285 16 b_X0_witnessBy_16 := by
  refine bnop1 ?_
  refine bplain (pc' := 17) rfl dX0_witnessBy_16 rfl (ihN rfl) rfl ?_
  refine bret (pc' := 18) rfl dX0_witnessBy_17 rfl (Or.inl ⟨rfl, rfl⟩) (ihN rfl) rfl ?_
  exact trivial
theorem bf_X0_witnessBy_18 : BOKt mt tX0_witnessBy 285 18 b_X0_witnessBy_18 := by
  refine bplain (pc' := 19) rfl dX0_witnessBy_18 rfl (ihN rfl) rfl ?_
  refine bplain (pc' := 21) rfl dX0_witnessBy_19 rfl (ihN rfl) rfl ?_
  refine bplain (pc' := 22) rfl dX0_witnessBy_21 rfl (ihN rfl) rfl ?_
  refine bplain (pc' := 24) rfl dX0_witnessBy_22 rfl (ihN rfl) rfl ?_
  exact bnop0 rfl (by decide)
theorem bf_X0_witnessBy_24 : BOKt mt tX0_witnessBy 285 24 b_X0_witnessBy_24 := by
  refine bplain (pc' := 26) rfl dX0_witnessBy_24 rfl (ihN rfl) rfl ?_
  refine bplain (pc' := 27) rfl dX0_witnessBy_26 rfl (ihN rfl) rfl ?_
  refine bjmp (tg := 53) (pc' := 30) rfl (by decide) (by decide) rfl dX0_witnessBy_27 rfl (ihN rfl) rfl ?_
  refine bplain (pc' := 32) rfl dX0_witnessBy_30 rfl (ihN rfl) rfl ?_
  refine bplain (pc' := 33) rfl dX0_witnessBy_32 rfl (ihN rfl) rfl ?_
  refine bthr (pc' := 36) rfl dX0_witnessBy_33 rfl (lkf0 q1122 lf_122) (trivial) (ihN rfl) rfl ?_
  refine bplain (pc' := 37) rfl dX0_witnessBy_36 rfl (ihN rfl) rfl ?_
  refine bplain (pc' := 38) rfl dX0_witnessBy_37 rfl (ihN rfl) rfl ?_
  refine bplain (pc' := 40) rfl dX0_witnessBy_38 rfl (ihN rfl) rfl ?_
  refine bcall (pc' := 43) rfl dX0_witnessBy_40 rfl (trivial) (lcs (l := q2243) mt_X0_setAt ⟨by decide, by decide⟩ mok_X0_setAt rfl ln_255 (Or.inl q2242)) (ihN rfl) rfl ?_
  refine bplain (pc' := 44) rfl dX0_witnessBy_43 rfl (ihN rfl) rfl ?_
  refine bplain (pc' := 45) rfl dX0_witnessBy_44 rfl (ihN rfl) rfl ?_
  refine bplain (pc' := 47) rfl dX0_witnessBy_45 rfl (ihN rfl) rfl ?_
  refine bplain (pc' := 50) rfl dX0_witnessBy_47 rfl (ihN rfl) rfl ?_
  refine bjmp (tg := 24) (pc' := 53) rfl (by decide) (by decide) rfl dX0_witnessBy_50 rfl (ihN rfl) rfl ?_
  exact trivial
theorem bf_X0_witnessBy_53 : BOKt mt tX0_witnessBy 285 53 b_X0_witnessBy_53 := by
  refine bplain (pc' := 55) rfl dX0_witnessBy_53 rfl (ihN rfl) rfl ?_
  refine bplain (pc' := 56) rfl dX0_witnessBy_55 rfl (ihN rfl) rfl ?_
  refine bthr (pc' := 59) rfl dX0_witnessBy_56 rfl (lkf0 q1122 lf_122) (trivial) (ihN rfl) rfl ?_
  refine bplain (pc' := 60) rfl dX0_witnessBy_59 rfl (ihN rfl) rfl ?_
  refine bplain (pc' := 61) rfl dX0_witnessBy_60 rfl (ihN rfl) rfl ?_
  refine bplain (pc' := 62) rfl dX0_witnessBy_61 rfl (ihN rfl) rfl ?_
  refine bcall (pc' := 65) rfl dX0_witnessBy_62 rfl (trivial) (lcs (l := q2243) mt_X0_setAt ⟨by decide, by decide⟩ mok_X0_setAt rfl ln_255 (Or.inl q2242)) (ihN rfl) rfl ?_
  refine bplain (pc' := 66) rfl dX0_witnessBy_65 rfl (ihN rfl) rfl ?_
  refine bplain (pc' := 67) rfl dX0_witnessBy_66 rfl (ihN rfl) rfl ?_
  refine bcall (pc' := 70) rfl dX0_witnessBy_67 rfl (trivial) (lcs (l := q629) mt_J10_numberOfTrailingZeros ⟨by decide, by decide⟩ mok_J10_numberOfTrailingZeros rfl ln_441 (Or.inl q2280)) (ihN rfl) rfl ?_
  refine bplain (pc' := 72) rfl dX0_witnessBy_70 rfl (ihN rfl) rfl ?_
  refine bplain (pc' := 73) rfl dX0_witnessBy_72 rfl (ihN rfl) rfl ?_
  refine bplain (pc' := 74) rfl dX0_witnessBy_73 rfl (ihN rfl) rfl ?_
  refine bjmp (tg := 82) (pc' := 77) rfl (by decide) (by decide) rfl dX0_witnessBy_74 rfl (ihN rfl) rfl ?_
  refine bplain (pc' := 79) rfl dX0_witnessBy_77 rfl (ihN rfl) rfl ?_
  refine bjmp (tg := 91) (pc' := 82) rfl (by decide) (by decide) rfl dX0_witnessBy_79 rfl (ihN rfl) rfl ?_
  exact trivial
theorem bf_X0_witnessBy_82 : BOKt mt tX0_witnessBy 285 82 b_X0_witnessBy_82 := by
  refine bplain (pc' := 83) rfl dX0_witnessBy_82 rfl (ihN rfl) rfl ?_
  refine bplain (pc' := 84) rfl dX0_witnessBy_83 rfl (ihN rfl) rfl ?_
  refine bplain (pc' := 85) rfl dX0_witnessBy_84 rfl (ihN rfl) rfl ?_
  refine bplain (pc' := 87) rfl dX0_witnessBy_85 rfl (ihN rfl) rfl ?_
  refine bplain (pc' := 88) rfl dX0_witnessBy_87 rfl (ihN rfl) rfl ?_
  refine bcall (pc' := 91) rfl dX0_witnessBy_88 rfl (trivial) (lcv (n := 4) rfl (pvc (lfv mt_X0_lastOf ⟨by decide, by decide⟩ mok_X0_lastOf ⟨by decide, by decide⟩ ⟨q2334, ln_453, Or.inl ⟨q2332, Or.inl qs36⟩⟩) (trivial)) (Or.inl (by decide))) (ihN rfl) rfl ?_
  exact bnop0 rfl (by decide)
theorem bf_X0_witnessBy_91 : BOKt mt tX0_witnessBy 285 91 b_X0_witnessBy_91 := by
  refine bnop1 ?_
  refine bret (pc' := 92) rfl dX0_witnessBy_91 rfl (Or.inl ⟨rfl, rfl⟩) (ihN rfl) rfl ?_
  exact trivial
theorem tf_X0_witnessBy : ∀ x ∈ tb_X0_witnessBy, BOK mt 285 x.1 x.2 := tb_c mt_X0_witnessBy bf_X0_witnessBy_0 (tb_c mt_X0_witnessBy bf_X0_witnessBy_16 (tb_c mt_X0_witnessBy bf_X0_witnessBy_18 (tb_c mt_X0_witnessBy bf_X0_witnessBy_24 (tb_c mt_X0_witnessBy bf_X0_witnessBy_53 (tb_c mt_X0_witnessBy bf_X0_witnessBy_82 (tb_c mt_X0_witnessBy bf_X0_witnessBy_91 (tb_n)))))))
theorem bf_X0_witness_0 : BOKt mt tX0_witness 286 0 b_X0_witness_0 := by
  refine bplain (pc' := 1) rfl dX0_witness_0 rfl (ihN rfl) rfl ?_
  refine bcall (pc' := 4) rfl dX0_witness_1 rfl (trivial) (lcs (l := q1210) mt_X0_isRow ⟨by decide, by decide⟩ mok_X0_isRow rfl ln_222 (Or.inl q1209)) (ihN rfl) rfl ?_
  refine bjmp (tg := 19) (pc' := 7) rfl (by decide) (by decide) rfl dX0_witness_4 rfl (ihN rfl) rfl ?_
  refine bplain (pc' := 8) rfl dX0_witness_7 rfl (ihN rfl) rfl ?_
  refine bplain (pc' := 9) rfl dX0_witness_8 rfl (ihN rfl) rfl ?_
  refine bplain (pc' := 10) rfl dX0_witness_9 rfl (ihN rfl) rfl ?_
  refine bobj (pc' := 13) rfl dX0_witness_10 rfl (lkq0 lc_336 q1775) (ihN rfl) rfl ?_
  refine bcall (pc' := 16) rfl dX0_witness_13 rfl (trivial) (lcs (l := q1214) mt_X0_in ⟨by decide, by decide⟩ mok_X0_in rfl ln_210 (Or.inl q1213)) (ihN rfl) rfl ?_
  refine bjmp (tg := 22) (pc' := 19) rfl (by decide) (by decide) rfl dX0_witness_16 rfl (ihN rfl) rfl ?_
  exact bnop0 rfl (by decide)
theorem bf_X0_witness_19 : BOKt mt tX0_witness 286 19 b_X0_witness_19 := by
  refine bnop1 ?_
  refine bplain (pc' := 21) rfl dX0_witness_19 rfl (ihN rfl) rfl ?_
  refine bret (pc' := 22) rfl dX0_witness_21 rfl (Or.inl ⟨rfl, rfl⟩) (ihN rfl) rfl ?_
  exact trivial
theorem bf_X0_witness_22 : BOKt mt tX0_witness 286 22 b_X0_witness_22 := by
  refine bplain (pc' := 23) rfl dX0_witness_22 rfl (ihN rfl) rfl ?_
  refine bcall (pc' := 26) rfl dX0_witness_23 rfl (trivial) (lcv (n := 0) rfl (pvc (lfv mt_X0_knows ⟨by decide, by decide⟩ mok_X0_knows ⟨by decide, by decide⟩ ⟨q2223, ln_0, Or.inl ⟨q2221, Or.inl qs24⟩⟩) (trivial)) (Or.inl (by decide))) (ihN rfl) rfl ?_
  refine bplain (pc' := 27) rfl dX0_witness_26 rfl (ihN rfl) rfl ?_
  refine bplain (pc' := 28) rfl dX0_witness_27 rfl (ihN rfl) rfl ?_
  refine bplain (pc' := 29) rfl dX0_witness_28 rfl (ihN rfl) rfl ?_
  refine bcall (pc' := 32) rfl dX0_witness_29 rfl (trivial) (lcv (n := 2) rfl (pvc (lfv mt_X0_witnessBy ⟨by decide, by decide⟩ mok_X0_witnessBy ⟨by decide, by decide⟩ ⟨q2330, ln_252, Or.inl ⟨q2328, Or.inl qs35⟩⟩) (trivial)) (Or.inl (by decide))) (ihN rfl) rfl ?_
  refine bret (pc' := 33) rfl dX0_witness_32 rfl (Or.inl ⟨rfl, rfl⟩) (ihN rfl) rfl ?_
  exact trivial
theorem tf_X0_witness : ∀ x ∈ tb_X0_witness, BOK mt 286 x.1 x.2 := tb_c mt_X0_witness bf_X0_witness_0 (tb_c mt_X0_witness bf_X0_witness_19 (tb_c mt_X0_witness bf_X0_witness_22 (tb_n)))
theorem bf_X3_witnessOf_0 : BOKt mt tX3_witnessOf 287 0 b_X3_witnessOf_0 := by
  refine bplain (pc' := 1) rfl dX3_witnessOf_0 rfl (ihN rfl) rfl ?_
  refine bcall (pc' := 4) rfl dX3_witnessOf_1 rfl (trivial) (lcv (n := 0) rfl (pvc (lfv mt_X3_findsSets ⟨by decide, by decide⟩ mok_X3_findsSets ⟨by decide, by decide⟩ ⟨q2953, ln_0, Or.inl ⟨q2951, Or.inl qs90⟩⟩) (trivial)) (Or.inl (by decide))) (ihN rfl) rfl ?_
  refine bplain (pc' := 5) rfl dX3_witnessOf_4 rfl (ihN rfl) rfl ?_
  refine bplain (pc' := 6) rfl dX3_witnessOf_5 rfl (ihN rfl) rfl ?_
  refine bplain (pc' := 7) rfl dX3_witnessOf_6 rfl (ihN rfl) rfl ?_
  refine bplain (pc' := 9) rfl dX3_witnessOf_7 rfl (ihN rfl) rfl ?_
  exact bnop0 rfl (by decide)
theorem bf_X3_witnessOf_9 : BOKt mt tX3_witnessOf 287 9 b_X3_witnessOf_9 := by
  refine bnop1 ?_
  refine bplain (pc' := 11) rfl dX3_witnessOf_9 rfl (ihN rfl) rfl ?_
  refine bplain (pc' := 12) rfl dX3_witnessOf_11 rfl (ihN rfl) rfl ?_
  refine bthr (pc' := 15) rfl dX3_witnessOf_12 rfl (lkf0 q2603 lf_274) (trivial) (ihN rfl) rfl ?_
  refine bjmp (tg := 124) (pc' := 18) rfl (by decide) (by decide) rfl dX3_witnessOf_15 rfl (ihN rfl) rfl ?_
  refine bplain (pc' := 19) rfl dX3_witnessOf_18 rfl (ihN rfl) rfl ?_
  refine bplain (pc' := 20) rfl dX3_witnessOf_19 rfl (ihN rfl) rfl ?_
  refine bplain (pc' := 21) rfl dX3_witnessOf_20 rfl (ihN rfl) rfl ?_
  refine bplain (pc' := 23) rfl dX3_witnessOf_21 rfl (ihN rfl) rfl ?_
  refine bcall (pc' := 26) rfl dX3_witnessOf_23 rfl (trivial) (lcv (n := 3) rfl (pvc (lfv mt_X3_bitsOfTurn ⟨by decide, by decide⟩ mok_X3_bitsOfTurn ⟨by decide, by decide⟩ ⟨q2973, ln_255, Or.inl ⟨q2971, Or.inl qs95⟩⟩) (trivial)) (Or.inl (by decide))) (ihN rfl) rfl ?_
  refine bplain (pc' := 27) rfl dX3_witnessOf_26 rfl (ihN rfl) rfl ?_
  refine bplain (pc' := 28) rfl dX3_witnessOf_27 rfl (ihN rfl) rfl ?_
  refine bplain (pc' := 29) rfl dX3_witnessOf_28 rfl (ihN rfl) rfl ?_
  refine bcall (pc' := 32) rfl dX3_witnessOf_29 rfl (trivial) (lcs (l := q2991) mt_X3_nextBit ⟨by decide, by decide⟩ mok_X3_nextBit rfl ln_252 (Or.inl q2990)) (ihN rfl) rfl ?_
  refine bplain (pc' := 34) rfl dX3_witnessOf_32 rfl (ihN rfl) rfl ?_
  refine bplain (pc' := 36) rfl dX3_witnessOf_34 rfl (ihN rfl) rfl ?_
  refine bplain (pc' := 37) rfl dX3_witnessOf_36 rfl (ihN rfl) rfl ?_
  refine bjmp (tg := 107) (pc' := 40) rfl (by decide) (by decide) rfl dX3_witnessOf_37 rfl (ihN rfl) rfl ?_
  refine bplain (pc' := 41) rfl dX3_witnessOf_40 rfl (ihN rfl) rfl ?_
  refine bplain (pc' := 43) rfl dX3_witnessOf_41 rfl (ihN rfl) rfl ?_
  refine bplain (pc' := 44) rfl dX3_witnessOf_43 rfl (ihN rfl) rfl ?_
  refine bplain (pc' := 46) rfl dX3_witnessOf_44 rfl (ihN rfl) rfl ?_
  exact bnop0 rfl (by decide)
theorem bf_X3_witnessOf_46 : BOKt mt tX3_witnessOf 287 46 b_X3_witnessOf_46 := by
  refine bnop1 ?_
  refine bplain (pc' := 48) rfl dX3_witnessOf_46 rfl (ihN rfl) rfl ?_
  refine bplain (pc' := 50) rfl dX3_witnessOf_48 rfl (ihN rfl) rfl ?_
  refine bjmp (tg := 85) (pc' := 53) rfl (by decide) (by decide) rfl dX3_witnessOf_50 rfl (ihN rfl) rfl ?_
  refine bplain (pc' := 54) rfl dX3_witnessOf_53 rfl (ihN rfl) rfl ?_
  refine bplain (pc' := 55) rfl dX3_witnessOf_54 rfl (ihN rfl) rfl ?_
  refine bplain (pc' := 56) rfl dX3_witnessOf_55 rfl (ihN rfl) rfl ?_
  refine bplain (pc' := 58) rfl dX3_witnessOf_56 rfl (ihN rfl) rfl ?_
  refine bcall (pc' := 61) rfl dX3_witnessOf_58 rfl (trivial) (lcv (n := 3) rfl (pvc (lfv mt_X3_bitsOfTurn ⟨by decide, by decide⟩ mok_X3_bitsOfTurn ⟨by decide, by decide⟩ ⟨q2973, ln_255, Or.inl ⟨q2971, Or.inl qs95⟩⟩) (trivial)) (Or.inl (by decide))) (ihN rfl) rfl ?_
  refine bplain (pc' := 63) rfl dX3_witnessOf_61 rfl (ihN rfl) rfl ?_
  refine bplain (pc' := 64) rfl dX3_witnessOf_63 rfl (ihN rfl) rfl ?_
  refine bplain (pc' := 65) rfl dX3_witnessOf_64 rfl (ihN rfl) rfl ?_
  refine bplain (pc' := 66) rfl dX3_witnessOf_65 rfl (ihN rfl) rfl ?_
  refine bplain (pc' := 67) rfl dX3_witnessOf_66 rfl (ihN rfl) rfl ?_
  refine bjmp (tg := 75) (pc' := 70) rfl (by decide) (by decide) rfl dX3_witnessOf_67 rfl (ihN rfl) rfl ?_
  refine bplain (pc' := 72) rfl dX3_witnessOf_70 rfl (ihN rfl) rfl ?_
  refine bjmp (tg := 77) (pc' := 75) rfl (by decide) (by decide) rfl dX3_witnessOf_72 rfl (ihN rfl) rfl ?_
  exact trivial
theorem bf_X3_witnessOf_75 : BOKt mt tX3_witnessOf 287 75 b_X3_witnessOf_75 := by
  refine bplain (pc' := 77) rfl dX3_witnessOf_75 rfl (ihN rfl) rfl ?_
  exact bnop0 rfl (by decide)
theorem bf_X3_witnessOf_77 : BOKt mt tX3_witnessOf 287 77 b_X3_witnessOf_77 := by
  refine bnop1 ?_
  refine bplain (pc' := 79) rfl dX3_witnessOf_77 rfl (ihN rfl) rfl ?_
  refine bplain (pc' := 82) rfl dX3_witnessOf_79 rfl (ihN rfl) rfl ?_
  refine bjmp (tg := 46) (pc' := 85) rfl (by decide) (by decide) rfl dX3_witnessOf_82 rfl (ihN rfl) rfl ?_
  exact trivial
theorem bf_X3_witnessOf_85 : BOKt mt tX3_witnessOf 287 85 b_X3_witnessOf_85 := by
  refine bplain (pc' := 86) rfl dX3_witnessOf_85 rfl (ihN rfl) rfl ?_
  refine bjmp (tg := 94) (pc' := 89) rfl (by decide) (by decide) rfl dX3_witnessOf_86 rfl (ihN rfl) rfl ?_
  refine bplain (pc' := 91) rfl dX3_witnessOf_89 rfl (ihN rfl) rfl ?_
  refine bjmp (tg := 106) (pc' := 94) rfl (by decide) (by decide) rfl dX3_witnessOf_91 rfl (ihN rfl) rfl ?_
  exact trivial
theorem bf_X3_witnessOf_94 : BOKt mt tX3_witnessOf 287 94 b_X3_witnessOf_94 := by
  refine bplain (pc' := 95) rfl dX3_witnessOf_94 rfl (ihN rfl) rfl ?_
  refine bplain (pc' := 96) rfl dX3_witnessOf_95 rfl (ihN rfl) rfl ?_
  refine bjmp (tg := 104) (pc' := 99) rfl (by decide) (by decide) rfl dX3_witnessOf_96 rfl (ihN rfl) rfl ?_
  refine bplain (pc' := 101) rfl dX3_witnessOf_99 rfl (ihN rfl) rfl ?_
  refine bjmp (tg := 106) (pc' := 104) rfl (by decide) (by decide) rfl dX3_witnessOf_101 rfl (ihN rfl) rfl ?_
  exact trivial
theorem bf_X3_witnessOf_104 : BOKt mt tX3_witnessOf 287 104 b_X3_witnessOf_104 := by
  refine bplain (pc' := 106) rfl dX3_witnessOf_104 rfl (ihN rfl) rfl ?_
  exact bnop0 rfl (by decide)
theorem bf_X3_witnessOf_106 : BOKt mt tX3_witnessOf 287 106 b_X3_witnessOf_106 := by
  refine bnop1 ?_
  refine bret (pc' := 107) rfl dX3_witnessOf_106 rfl (Or.inl ⟨rfl, rfl⟩) (ihN rfl) rfl ?_
  exact trivial
theorem bf_X3_witnessOf_107 : BOKt mt tX3_witnessOf 287 107 b_X3_witnessOf_107 := by
  refine bplain (pc' := 108) rfl dX3_witnessOf_107 rfl (ihN rfl) rfl ?_
  refine bplain (pc' := 109) rfl dX3_witnessOf_108 rfl (ihN rfl) rfl ?_
  refine bplain (pc' := 110) rfl dX3_witnessOf_109 rfl (ihN rfl) rfl ?_
  refine bplain (pc' := 111) rfl dX3_witnessOf_110 rfl (ihN rfl) rfl ?_
  refine bplain (pc' := 113) rfl dX3_witnessOf_111 rfl (ihN rfl) rfl ?_
  refine bcall (pc' := 116) rfl dX3_witnessOf_113 rfl (trivial) (lcv (n := 3) rfl (pvc (lfv mt_X3_bitsOfTurn ⟨by decide, by decide⟩ mok_X3_bitsOfTurn ⟨by decide, by decide⟩ ⟨q2973, ln_255, Or.inl ⟨q2971, Or.inl qs95⟩⟩) (trivial)) (Or.inl (by decide))) (ihN rfl) rfl ?_
  refine bplain (pc' := 117) rfl dX3_witnessOf_116 rfl (ihN rfl) rfl ?_
  refine bplain (pc' := 118) rfl dX3_witnessOf_117 rfl (ihN rfl) rfl ?_
  refine bplain (pc' := 121) rfl dX3_witnessOf_118 rfl (ihN rfl) rfl ?_
  refine bjmp (tg := 9) (pc' := 124) rfl (by decide) (by decide) rfl dX3_witnessOf_121 rfl (ihN rfl) rfl ?_
  exact trivial
theorem bf_X3_witnessOf_124 : BOKt mt tX3_witnessOf 287 124 b_X3_witnessOf_124 := by
  refine bplain (pc' := 125) rfl dX3_witnessOf_124 rfl (ihN rfl) rfl ?_
  refine bret (pc' := 126) rfl dX3_witnessOf_125 rfl (Or.inl ⟨rfl, rfl⟩) (ihN rfl) rfl ?_
  exact trivial
theorem tf_X3_witnessOf : ∀ x ∈ tb_X3_witnessOf, BOK mt 287 x.1 x.2 := tb_c mt_X3_witnessOf bf_X3_witnessOf_0 (tb_c mt_X3_witnessOf bf_X3_witnessOf_9 (tb_c mt_X3_witnessOf bf_X3_witnessOf_46 (tb_c mt_X3_witnessOf bf_X3_witnessOf_75 (tb_c mt_X3_witnessOf bf_X3_witnessOf_77 (tb_c mt_X3_witnessOf bf_X3_witnessOf_85 (tb_c mt_X3_witnessOf bf_X3_witnessOf_94 (tb_c mt_X3_witnessOf bf_X3_witnessOf_104 (tb_c mt_X3_witnessOf bf_X3_witnessOf_106 (tb_c mt_X3_witnessOf bf_X3_witnessOf_107 (tb_c mt_X3_witnessOf bf_X3_witnessOf_124 (tb_n)))))))))))
theorem bf_X3_witness_0 : BOKt mt tX3_witness 288 0 b_X3_witness_0 := by
  refine bplain (pc' := 1) rfl dX3_witness_0 rfl (ihN rfl) rfl ?_
  refine bcall (pc' := 4) rfl dX3_witness_1 rfl (trivial) (lcs (l := q2744) mt_X3_isRow ⟨by decide, by decide⟩ mok_X3_isRow rfl ln_222 (Or.inl q2743)) (ihN rfl) rfl ?_
  refine bjmp (tg := 25) (pc' := 7) rfl (by decide) (by decide) rfl dX3_witness_4 rfl (ihN rfl) rfl ?_
  refine bplain (pc' := 8) rfl dX3_witness_7 rfl (ihN rfl) rfl ?_
  refine bplain (pc' := 9) rfl dX3_witness_8 rfl (ihN rfl) rfl ?_
  refine bplain (pc' := 10) rfl dX3_witness_9 rfl (ihN rfl) rfl ?_
  refine bcall (pc' := 13) rfl dX3_witness_10 rfl (trivial) (lcs (l := q2747) mt_X3_in ⟨by decide, by decide⟩ mok_X3_in rfl ln_226 (Or.inl q2746)) (ihN rfl) rfl ?_
  refine bjmp (tg := 25) (pc' := 16) rfl (by decide) (by decide) rfl dX3_witness_13 rfl (ihN rfl) rfl ?_
  refine bplain (pc' := 17) rfl dX3_witness_16 rfl (ihN rfl) rfl ?_
  refine bplain (pc' := 18) rfl dX3_witness_17 rfl (ihN rfl) rfl ?_
  refine bplain (pc' := 19) rfl dX3_witness_18 rfl (ihN rfl) rfl ?_
  refine bcall (pc' := 22) rfl dX3_witness_19 rfl (trivial) (lcv (n := 2) rfl (pvc (lfv mt_X3_witnessOf ⟨by decide, by decide⟩ mok_X3_witnessOf ⟨by decide, by decide⟩ ⟨q3043, ln_252, Or.inl ⟨q3041, Or.inl qs106⟩⟩) (trivial)) (Or.inl (by decide))) (ihN rfl) rfl ?_
  refine bjmp (tg := 27) (pc' := 25) rfl (by decide) (by decide) rfl dX3_witness_22 rfl (ihN rfl) rfl ?_
  exact trivial
theorem bf_X3_witness_25 : BOKt mt tX3_witness 288 25 b_X3_witness_25 := by
  refine bnop1 ?_
  refine bplain (pc' := 27) rfl dX3_witness_25 rfl (ihN rfl) rfl ?_
  exact bnop0 rfl (by decide)
theorem bf_X3_witness_27 : BOKt mt tX3_witness 288 27 b_X3_witness_27 := by
  refine bnop1 ?_
  refine bret (pc' := 28) rfl dX3_witness_27 rfl (Or.inl ⟨rfl, rfl⟩) (ihN rfl) rfl ?_
  exact trivial
theorem tf_X3_witness : ∀ x ∈ tb_X3_witness, BOK mt 288 x.1 x.2 := tb_c mt_X3_witness bf_X3_witness_0 (tb_c mt_X3_witness bf_X3_witness_25 (tb_c mt_X3_witness bf_X3_witness_27 (tb_n)))
theorem bf_X0_last_0 : BOKt mt tX0_last 289 0 b_X0_last_0 := by
  refine bplain (pc' := 1) rfl dX0_last_0 rfl (ihN rfl) rfl ?_
  refine bplain (pc' := 2) rfl dX0_last_1 rfl (ihN rfl) rfl ?_
  refine bplain (pc' := 3) rfl dX0_last_2 rfl (ihN rfl) rfl ?_
  refine bobj (pc' := 6) rfl dX0_last_3 rfl (lkq0 lc_336 q1775) (ihN rfl) rfl ?_
  refine bcall (pc' := 9) rfl dX0_last_6 rfl (trivial) (lcs (l := q1214) mt_X0_in ⟨by decide, by decide⟩ mok_X0_in rfl ln_210 (Or.inl q1213)) (ihN rfl) rfl ?_
  refine bjmp (tg := 31) (pc' := 12) rfl (by decide) (by decide) rfl dX0_last_9 rfl (ihN rfl) rfl ?_
  refine bplain (pc' := 13) rfl dX0_last_12 rfl (ihN rfl) rfl ?_
  refine bcall (pc' := 16) rfl dX0_last_13 rfl (trivial) (lcs (l := q1210) mt_X0_isRow ⟨by decide, by decide⟩ mok_X0_isRow rfl ln_222 (Or.inl q1209)) (ihN rfl) rfl ?_
  refine bjmp (tg := 31) (pc' := 19) rfl (by decide) (by decide) rfl dX0_last_16 rfl (ihN rfl) rfl ?_
  refine bplain (pc' := 20) rfl dX0_last_19 rfl (ihN rfl) rfl ?_
  refine bplain (pc' := 21) rfl dX0_last_20 rfl (ihN rfl) rfl ?_
  refine bplain (pc' := 22) rfl dX0_last_21 rfl (ihN rfl) rfl ?_
  refine bobj (pc' := 25) rfl dX0_last_22 rfl (lkq0 lc_454 q2340) (ihN rfl) rfl ?_
  refine bcall (pc' := 28) rfl dX0_last_25 rfl (trivial) (lcs (l := q1214) mt_X0_in ⟨by decide, by decide⟩ mok_X0_in rfl ln_210 (Or.inl q1213)) (ihN rfl) rfl ?_
  refine bjmp (tg := 34) (pc' := 31) rfl (by decide) (by decide) rfl dX0_last_28 rfl (ihN rfl) rfl ?_
  exact bnop0 rfl (by decide)
theorem bf_X0_last_31 : BOKt mt tX0_last 289 31 b_X0_last_31 := by
  refine bnop1 ?_
  refine bplain (pc' := 33) rfl dX0_last_31 rfl (ihN rfl) rfl ?_
  refine bret (pc' := 34) rfl dX0_last_33 rfl (Or.inl ⟨rfl, rfl⟩) (ihN rfl) rfl ?_
  exact trivial
theorem bf_X0_last_34 : BOKt mt tX0_last 289 34 b_X0_last_34 := by
  refine bplain (pc' := 35) rfl dX0_last_34 rfl (ihN rfl) rfl ?_
  refine bcall (pc' := 38) rfl dX0_last_35 rfl (trivial) (lcv (n := 0) rfl (pvc (lfv mt_X0_knows ⟨by decide, by decide⟩ mok_X0_knows ⟨by decide, by decide⟩ ⟨q2223, ln_0, Or.inl ⟨q2221, Or.inl qs24⟩⟩) (trivial)) (Or.inl (by decide))) (ihN rfl) rfl ?_
  refine bplain (pc' := 39) rfl dX0_last_38 rfl (ihN rfl) rfl ?_
  refine bplain (pc' := 40) rfl dX0_last_39 rfl (ihN rfl) rfl ?_
  refine bplain (pc' := 41) rfl dX0_last_40 rfl (ihN rfl) rfl ?_
  refine bplain (pc' := 42) rfl dX0_last_41 rfl (ihN rfl) rfl ?_
  refine bplain (pc' := 43) rfl dX0_last_42 rfl (ihN rfl) rfl ?_
  refine bthr (pc' := 46) rfl dX0_last_43 rfl (lkf0 q1118 lf_270) (trivial) (ihN rfl) rfl ?_
  refine bcall (pc' := 49) rfl dX0_last_46 rfl (trivial) (lcv (n := 4) rfl (pvc (lfv mt_X0_lastOf ⟨by decide, by decide⟩ mok_X0_lastOf ⟨by decide, by decide⟩ ⟨q2334, ln_453, Or.inl ⟨q2332, Or.inl qs36⟩⟩) (trivial)) (Or.inl (by decide))) (ihN rfl) rfl ?_
  refine bret (pc' := 50) rfl dX0_last_49 rfl (Or.inl ⟨rfl, rfl⟩) (ihN rfl) rfl ?_
  exact trivial
theorem tf_X0_last : ∀ x ∈ tb_X0_last, BOK mt 289 x.1 x.2 := tb_c mt_X0_last bf_X0_last_0 (tb_c mt_X0_last bf_X0_last_31 (tb_c mt_X0_last bf_X0_last_34 (tb_n)))
theorem bf_X3_lastOf_0 : BOKt mt tX3_lastOf 290 0 b_X3_lastOf_0 := by
  refine bplain (pc' := 1) rfl dX3_lastOf_0 rfl (ihN rfl) rfl ?_
  refine bcall (pc' := 4) rfl dX3_lastOf_1 rfl (trivial) (lcv (n := 0) rfl (pvc (lfv mt_X3_findsSets ⟨by decide, by decide⟩ mok_X3_findsSets ⟨by decide, by decide⟩ ⟨q2953, ln_0, Or.inl ⟨q2951, Or.inl qs90⟩⟩) (trivial)) (Or.inl (by decide))) (ihN rfl) rfl ?_
  refine bplain (pc' := 5) rfl dX3_lastOf_4 rfl (ihN rfl) rfl ?_
  refine bplain (pc' := 7) rfl dX3_lastOf_5 rfl (ihN rfl) rfl ?_
  refine bplain (pc' := 8) rfl dX3_lastOf_7 rfl (ihN rfl) rfl ?_
  refine bplain (pc' := 10) rfl dX3_lastOf_8 rfl (ihN rfl) rfl ?_
  exact bnop0 rfl (by decide)
theorem bf_X3_lastOf_10 : BOKt mt tX3_lastOf 290 10 b_X3_lastOf_10 := by
  refine bplain (pc' := 12) rfl dX3_lastOf_10 rfl (ihN rfl) rfl ?_
  refine bplain (pc' := 13) rfl dX3_lastOf_12 rfl (ihN rfl) rfl ?_
  refine bthr (pc' := 16) rfl dX3_lastOf_13 rfl (lkf0 q2603 lf_274) (trivial) (ihN rfl) rfl ?_
  refine bjmp (tg := 50) (pc' := 19) rfl (by decide) (by decide) rfl dX3_lastOf_16 rfl (ihN rfl) rfl ?_
  refine bplain (pc' := 20) rfl dX3_lastOf_19 rfl (ihN rfl) rfl ?_
  refine bplain (pc' := 21) rfl dX3_lastOf_20 rfl (ihN rfl) rfl ?_
  refine bplain (pc' := 22) rfl dX3_lastOf_21 rfl (ihN rfl) rfl ?_
  refine bplain (pc' := 24) rfl dX3_lastOf_22 rfl (ihN rfl) rfl ?_
  refine bcall (pc' := 27) rfl dX3_lastOf_24 rfl (trivial) (lcv (n := 3) rfl (pvc (lfv mt_X3_bitsOfTurn ⟨by decide, by decide⟩ mok_X3_bitsOfTurn ⟨by decide, by decide⟩ ⟨q2973, ln_255, Or.inl ⟨q2971, Or.inl qs95⟩⟩) (trivial)) (Or.inl (by decide))) (ihN rfl) rfl ?_
  refine bplain (pc' := 28) rfl dX3_lastOf_27 rfl (ihN rfl) rfl ?_
  refine bplain (pc' := 29) rfl dX3_lastOf_28 rfl (ihN rfl) rfl ?_
  refine bplain (pc' := 30) rfl dX3_lastOf_29 rfl (ihN rfl) rfl ?_
  refine bplain (pc' := 31) rfl dX3_lastOf_30 rfl (ihN rfl) rfl ?_
  refine bplain (pc' := 32) rfl dX3_lastOf_31 rfl (ihN rfl) rfl ?_
  refine bjmp (tg := 40) (pc' := 35) rfl (by decide) (by decide) rfl dX3_lastOf_32 rfl (ihN rfl) rfl ?_
  refine bplain (pc' := 37) rfl dX3_lastOf_35 rfl (ihN rfl) rfl ?_
  refine bjmp (tg := 42) (pc' := 40) rfl (by decide) (by decide) rfl dX3_lastOf_37 rfl (ihN rfl) rfl ?_
  exact trivial
theorem bf_X3_lastOf_40 : BOKt mt tX3_lastOf 290 40 b_X3_lastOf_40 := by
  refine bplain (pc' := 42) rfl dX3_lastOf_40 rfl (ihN rfl) rfl ?_
  exact bnop0 rfl (by decide)
theorem bf_X3_lastOf_42 : BOKt mt tX3_lastOf 290 42 b_X3_lastOf_42 := by
  refine bnop1 ?_
  refine bplain (pc' := 44) rfl dX3_lastOf_42 rfl (ihN rfl) rfl ?_
  refine bplain (pc' := 47) rfl dX3_lastOf_44 rfl (ihN rfl) rfl ?_
  refine bjmp (tg := 10) (pc' := 50) rfl (by decide) (by decide) rfl dX3_lastOf_47 rfl (ihN rfl) rfl ?_
  exact trivial
theorem bf_X3_lastOf_50 : BOKt mt tX3_lastOf 290 50 b_X3_lastOf_50 := by
  refine bplain (pc' := 52) rfl dX3_lastOf_50 rfl (ihN rfl) rfl ?_
  refine bret (pc' := 53) rfl dX3_lastOf_52 rfl (Or.inl ⟨rfl, rfl⟩) (ihN rfl) rfl ?_
  exact trivial
theorem tf_X3_lastOf : ∀ x ∈ tb_X3_lastOf, BOK mt 290 x.1 x.2 := tb_c mt_X3_lastOf bf_X3_lastOf_0 (tb_c mt_X3_lastOf bf_X3_lastOf_10 (tb_c mt_X3_lastOf bf_X3_lastOf_40 (tb_c mt_X3_lastOf bf_X3_lastOf_42 (tb_c mt_X3_lastOf bf_X3_lastOf_50 (tb_n)))))
theorem bf_X3_last_0 : BOKt mt tX3_last 291 0 b_X3_last_0 := by
  refine bplain (pc' := 1) rfl dX3_last_0 rfl (ihN rfl) rfl ?_
  refine bplain (pc' := 2) rfl dX3_last_1 rfl (ihN rfl) rfl ?_
  refine bplain (pc' := 3) rfl dX3_last_2 rfl (ihN rfl) rfl ?_
  refine bcall (pc' := 6) rfl dX3_last_3 rfl (trivial) (lcs (l := q2747) mt_X3_in ⟨by decide, by decide⟩ mok_X3_in rfl ln_226 (Or.inl q2746)) (ihN rfl) rfl ?_
  refine bjmp (tg := 36) (pc' := 9) rfl (by decide) (by decide) rfl dX3_last_6 rfl (ihN rfl) rfl ?_
  refine bplain (pc' := 10) rfl dX3_last_9 rfl (ihN rfl) rfl ?_
  refine bcall (pc' := 13) rfl dX3_last_10 rfl (trivial) (lcs (l := q2744) mt_X3_isRow ⟨by decide, by decide⟩ mok_X3_isRow rfl ln_222 (Or.inl q2743)) (ihN rfl) rfl ?_
  refine bjmp (tg := 36) (pc' := 16) rfl (by decide) (by decide) rfl dX3_last_13 rfl (ihN rfl) rfl ?_
  refine bplain (pc' := 17) rfl dX3_last_16 rfl (ihN rfl) rfl ?_
  refine bplain (pc' := 18) rfl dX3_last_17 rfl (ihN rfl) rfl ?_
  refine bplain (pc' := 20) rfl dX3_last_18 rfl (ihN rfl) rfl ?_
  refine bcall (pc' := 23) rfl dX3_last_20 rfl (trivial) (lcs (l := q2747) mt_X3_in ⟨by decide, by decide⟩ mok_X3_in rfl ln_226 (Or.inl q2746)) (ihN rfl) rfl ?_
  refine bjmp (tg := 36) (pc' := 26) rfl (by decide) (by decide) rfl dX3_last_23 rfl (ihN rfl) rfl ?_
  refine bplain (pc' := 27) rfl dX3_last_26 rfl (ihN rfl) rfl ?_
  refine bplain (pc' := 28) rfl dX3_last_27 rfl (ihN rfl) rfl ?_
  refine bplain (pc' := 29) rfl dX3_last_28 rfl (ihN rfl) rfl ?_
  refine bplain (pc' := 30) rfl dX3_last_29 rfl (ihN rfl) rfl ?_
  refine bcall (pc' := 33) rfl dX3_last_30 rfl (trivial) (lcv (n := 3) rfl (pvc (lfv mt_X3_lastOf ⟨by decide, by decide⟩ mok_X3_lastOf ⟨by decide, by decide⟩ ⟨q3051, ln_255, Or.inl ⟨q3049, Or.inl qs107⟩⟩) (trivial)) (Or.inl (by decide))) (ihN rfl) rfl ?_
  refine bjmp (tg := 38) (pc' := 36) rfl (by decide) (by decide) rfl dX3_last_33 rfl (ihN rfl) rfl ?_
  exact trivial
theorem bf_X3_last_36 : BOKt mt tX3_last 291 36 b_X3_last_36 := by
  refine bnop1 ?_
  refine bplain (pc' := 38) rfl dX3_last_36 rfl (ihN rfl) rfl ?_
  exact bnop0 rfl (by decide)
theorem bf_X3_last_38 : BOKt mt tX3_last 291 38 b_X3_last_38 := by
  refine bnop1 ?_
  refine bret (pc' := 39) rfl dX3_last_38 rfl (Or.inl ⟨rfl, rfl⟩) (ihN rfl) rfl ?_
  exact trivial
theorem tf_X3_last : ∀ x ∈ tb_X3_last, BOK mt 291 x.1 x.2 := tb_c mt_X3_last bf_X3_last_0 (tb_c mt_X3_last bf_X3_last_36 (tb_c mt_X3_last bf_X3_last_38 (tb_n)))
theorem bf_X2_passes_0 : BOKt mt tX2_passes 292 0 b_X2_passes_0 := by
  refine bplain (pc' := 1) rfl dX2_passes_0 rfl (ihN rfl) rfl ?_
  refine bplain (pc' := 2) rfl dX2_passes_1 rfl (ihN rfl) rfl ?_
  refine bobj (pc' := 5) rfl dX2_passes_2 rfl (⟨lkf0 q1088 lf_455, lkp0 lp_456⟩) (ihN rfl) rfl ?_
  refine bplain (pc' := 6) rfl dX2_passes_5 rfl (ihN rfl) rfl ?_
  refine bplain (pc' := 7) rfl dX2_passes_6 rfl (ihN rfl) rfl ?_
  refine bthr (pc' := 10) rfl dX2_passes_7 rfl (lkf0 q1087 lf_457) (trivial) (ihN rfl) rfl ?_
  refine bplain (pc' := 11) rfl dX2_passes_10 rfl (ihN rfl) rfl ?_
  refine bplain (pc' := 12) rfl dX2_passes_11 rfl (ihN rfl) rfl ?_
  refine bobj (pc' := 15) rfl dX2_passes_12 rfl (⟨lkf0 q1087 lf_457, lkp0 lp_458⟩) (ihN rfl) rfl ?_
  exact bnop0 rfl (by decide)
theorem bf_X2_passes_15 : BOKt mt tX2_passes 292 15 b_X2_passes_15 := by
  refine bplain (pc' := 16) rfl dX2_passes_15 rfl (ihN rfl) rfl ?_
  refine bthr (pc' := 19) rfl dX2_passes_16 rfl (lkf0 q1087 lf_457) (trivial) (ihN rfl) rfl ?_
  refine bplain (pc' := 20) rfl dX2_passes_19 rfl (ihN rfl) rfl ?_
  refine bthr (pc' := 23) rfl dX2_passes_20 rfl (lkf0 q1090 lf_104) (trivial) (ihN rfl) rfl ?_
  refine bthr (pc' := 26) rfl dX2_passes_23 rfl (lkf1 (host := "StrideTurns") (by decide) q1116 lf_116) (trivial) (ihN rfl) rfl ?_
  refine bcall (pc' := 29) rfl dX2_passes_26 rfl (trivial) (lcv (n := 0) rfl (pvc (lfv mt_J20_size ⟨by decide, by decide⟩ mok_J20_size ⟨by decide, by decide⟩ ⟨q1648, ln_40, Or.inl ⟨q2361, Or.inl q1649⟩⟩) (trivial)) (Or.inl (by decide))) (ihN rfl) rfl ?_
  refine bjmp (tg := 72) (pc' := 32) rfl (by decide) (by decide) rfl dX2_passes_29 rfl (ihN rfl) rfl ?_
  refine bplain (pc' := 33) rfl dX2_passes_32 rfl (ihN rfl) rfl ?_
  refine bthr (pc' := 36) rfl dX2_passes_33 rfl (lkf0 q1090 lf_104) (trivial) (ihN rfl) rfl ?_
  refine bthr (pc' := 39) rfl dX2_passes_36 rfl (lkf1 (host := "StrideTurns") (by decide) q1116 lf_116) (trivial) (ihN rfl) rfl ?_
  refine bplain (pc' := 40) rfl dX2_passes_39 rfl (ihN rfl) rfl ?_
  refine bthr (pc' := 43) rfl dX2_passes_40 rfl (lkf0 q1087 lf_457) (trivial) (ihN rfl) rfl ?_
  refine bcall (pc' := 46) rfl dX2_passes_43 rfl (trivial) (lcv (n := 1) rfl (pvc (lfv mt_J20_get ⟨by decide, by decide⟩ mok_J20_get ⟨by decide, by decide⟩ ⟨q1777, ln_338, Or.inl ⟨q2362, Or.inl q1778⟩⟩) (trivial)) (Or.inl (by decide))) (ihN rfl) rfl ?_
  refine bthr (pc' := 49) rfl dX2_passes_46 rfl (lkc (nm := "StrideTurns$Statement") q2363 lg_340 lb_341) (Or.inl rfl) (ihN rfl) rfl ?_
  refine bplain (pc' := 50) rfl dX2_passes_49 rfl (ihN rfl) rfl ?_
  refine bthr (pc' := 53) rfl dX2_passes_50 rfl (lkf0 q1085 lf_459) (trivial) (ihN rfl) rfl ?_
  refine bcall (pc' := 56) rfl dX2_passes_53 rfl (trivial) (lcv (n := 1) rfl (pvc (lfv mt_X6_isDone ⟨by decide, by decide⟩ mok_X6_isDone ⟨by decide, by decide⟩ ⟨q1877, ln_222, Or.inl ⟨q2364, Or.inl q1878⟩⟩) (trivial)) (Or.inl (by decide))) (ihN rfl) rfl ?_
  refine bjmp (tg := 72) (pc' := 59) rfl (by decide) (by decide) rfl dX2_passes_56 rfl (ihN rfl) rfl ?_
  refine bplain (pc' := 60) rfl dX2_passes_59 rfl (ihN rfl) rfl ?_
  refine bplain (pc' := 61) rfl dX2_passes_60 rfl (ihN rfl) rfl ?_
  refine bthr (pc' := 64) rfl dX2_passes_61 rfl (lkf0 q1087 lf_457) (trivial) (ihN rfl) rfl ?_
  refine bplain (pc' := 65) rfl dX2_passes_64 rfl (ihN rfl) rfl ?_
  refine bplain (pc' := 66) rfl dX2_passes_65 rfl (ihN rfl) rfl ?_
  refine bobj (pc' := 69) rfl dX2_passes_66 rfl (⟨lkf0 q1087 lf_457, lkp0 lp_458⟩) (ihN rfl) rfl ?_
  refine bjmp (tg := 15) (pc' := 72) rfl (by decide) (by decide) rfl dX2_passes_69 rfl (ihN rfl) rfl ?_
  exact trivial
theorem bf_X2_passes_72 : BOKt mt tX2_passes 292 72 b_X2_passes_72 := by
  refine bnop1 ?_
  refine bret (pc' := 73) rfl dX2_passes_72 rfl (rfl) (ihN rfl) rfl ?_
  exact trivial
theorem tf_X2_passes : ∀ x ∈ tb_X2_passes, BOK mt 292 x.1 x.2 := tb_c mt_X2_passes bf_X2_passes_0 (tb_c mt_X2_passes bf_X2_passes_15 (tb_c mt_X2_passes bf_X2_passes_72 (tb_n)))
theorem bf_X2_begins_0 : BOKt mt tX2_begins 293 0 b_X2_begins_0 := by
  refine bplain (pc' := 1) rfl dX2_begins_0 rfl (ihN rfl) rfl ?_
  refine bplain (pc' := 2) rfl dX2_begins_1 rfl (ihN rfl) rfl ?_
  refine bobj (pc' := 5) rfl dX2_begins_2 rfl (⟨lkf0 q1085 lf_459, lkp0 lp_460⟩) (ihN rfl) rfl ?_
  refine bplain (pc' := 6) rfl dX2_begins_5 rfl (ihN rfl) rfl ?_
  refine bplain (pc' := 7) rfl dX2_begins_6 rfl (ihN rfl) rfl ?_
  refine bobj (pc' := 10) rfl dX2_begins_7 rfl (⟨lkf0 q1087 lf_457, lkp0 lp_458⟩) (ihN rfl) rfl ?_
  refine bplain (pc' := 11) rfl dX2_begins_10 rfl (ihN rfl) rfl ?_
  refine bplain (pc' := 12) rfl dX2_begins_11 rfl (ihN rfl) rfl ?_
  refine bobj (pc' := 15) rfl dX2_begins_12 rfl (⟨lkf0 q1089 lf_461, lkp0 lp_462⟩) (ihN rfl) rfl ?_
  refine bplain (pc' := 16) rfl dX2_begins_15 rfl (ihN rfl) rfl ?_
  refine bplain (pc' := 17) rfl dX2_begins_16 rfl (ihN rfl) rfl ?_
  exact bnop0 rfl (by decide)
theorem bf_X2_begins_17 : BOKt mt tX2_begins 293 17 b_X2_begins_17 := by
  refine bnop1 ?_
  refine bplain (pc' := 18) rfl dX2_begins_17 rfl (ihN rfl) rfl ?_
  refine bplain (pc' := 19) rfl dX2_begins_18 rfl (ihN rfl) rfl ?_
  refine bthr (pc' := 22) rfl dX2_begins_19 rfl (lkf0 q1083 lf_108) (trivial) (ihN rfl) rfl ?_
  refine bplain (pc' := 23) rfl dX2_begins_22 rfl (ihN rfl) rfl ?_
  refine bjmp (tg := 39) (pc' := 26) rfl (by decide) (by decide) rfl dX2_begins_23 rfl (ihN rfl) rfl ?_
  refine bplain (pc' := 27) rfl dX2_begins_26 rfl (ihN rfl) rfl ?_
  refine bthr (pc' := 30) rfl dX2_begins_27 rfl (lkf0 q1083 lf_108) (trivial) (ihN rfl) rfl ?_
  refine bplain (pc' := 31) rfl dX2_begins_30 rfl (ihN rfl) rfl ?_
  refine bplain (pc' := 32) rfl dX2_begins_31 rfl (ihN rfl) rfl ?_
  refine bplain (pc' := 33) rfl dX2_begins_32 rfl (ihN rfl) rfl ?_
  refine bplain (pc' := 36) rfl dX2_begins_33 rfl (ihN rfl) rfl ?_
  refine bjmp (tg := 17) (pc' := 39) rfl (by decide) (by decide) rfl dX2_begins_36 rfl (ihN rfl) rfl ?_
  exact trivial
theorem bf_X2_begins_39 : BOKt mt tX2_begins 293 39 b_X2_begins_39 := by
  refine bplain (pc' := 40) rfl dX2_begins_39 rfl (ihN rfl) rfl ?_
  refine bcall (pc' := 43) rfl dX2_begins_40 rfl (trivial) (lcv (n := 0) rfl (pvc (lfv mt_X2_passes ⟨by decide, by decide⟩ mok_X2_passes ⟨by decide, by decide⟩ ⟨q2358, ln_0, Or.inl ⟨q2357, Or.inl q2359⟩⟩) (trivial)) (Or.inl (by decide))) (ihN rfl) rfl ?_
  refine bret (pc' := 44) rfl dX2_begins_43 rfl (rfl) (ihN rfl) rfl ?_
  exact trivial
theorem tf_X2_begins : ∀ x ∈ tb_X2_begins, BOK mt 293 x.1 x.2 := tb_c mt_X2_begins bf_X2_begins_0 (tb_c mt_X2_begins bf_X2_begins_17 (tb_c mt_X2_begins bf_X2_begins_39 (tb_n)))
theorem bf_X0_begins_0 : BOKt mt tX0_begins 294 0 b_X0_begins_0 := by
  refine bplain (pc' := 1) rfl dX0_begins_0 rfl (ihN rfl) rfl ?_
  refine bcall (pc' := 4) rfl dX0_begins_1 rfl (trivial) (lcv (n := 0) rfl (pvc (lfv mt_X0_knows ⟨by decide, by decide⟩ mok_X0_knows ⟨by decide, by decide⟩ ⟨q2223, ln_0, Or.inl ⟨q2221, Or.inl qs24⟩⟩) (trivial)) (Or.inl (by decide))) (ihN rfl) rfl ?_
  refine bplain (pc' := 5) rfl dX0_begins_4 rfl (ihN rfl) rfl ?_
  refine bplain (pc' := 6) rfl dX0_begins_5 rfl (ihN rfl) rfl ?_
  exact bnop0 rfl (by decide)
theorem bf_X0_begins_6 : BOKt mt tX0_begins 294 6 b_X0_begins_6 := by
  refine bnop1 ?_
  refine bplain (pc' := 7) rfl dX0_begins_6 rfl (ihN rfl) rfl ?_
  refine bplain (pc' := 9) rfl dX0_begins_7 rfl (ihN rfl) rfl ?_
  refine bjmp (tg := 90) (pc' := 12) rfl (by decide) (by decide) rfl dX0_begins_9 rfl (ihN rfl) rfl ?_
  refine bplain (pc' := 13) rfl dX0_begins_12 rfl (ihN rfl) rfl ?_
  refine bplain (pc' := 14) rfl dX0_begins_13 rfl (ihN rfl) rfl ?_
  refine bcall (pc' := 17) rfl dX0_begins_14 rfl (trivial) (lcv (n := 1) rfl (pvc (lfv mt_X0_verdictOf ⟨by decide, by decide⟩ mok_X0_verdictOf ⟨by decide, by decide⟩ ⟨q2296, ln_225, Or.inl ⟨q2294, Or.inl qs30⟩⟩) (trivial)) (Or.inl (by decide))) (ihN rfl) rfl ?_
  refine bplain (pc' := 18) rfl dX0_begins_17 rfl (ihN rfl) rfl ?_
  refine bplain (pc' := 19) rfl dX0_begins_18 rfl (ihN rfl) rfl ?_
  refine bthr (pc' := 22) rfl dX0_begins_19 rfl (lkf0 q1124 lf_126) (trivial) (ihN rfl) rfl ?_
  refine bplain (pc' := 23) rfl dX0_begins_22 rfl (ihN rfl) rfl ?_
  refine bplain (pc' := 24) rfl dX0_begins_23 rfl (ihN rfl) rfl ?_
  refine bjmp (tg := 41) (pc' := 27) rfl (by decide) (by decide) rfl dX0_begins_24 rfl (ihN rfl) rfl ?_
  refine bplain (pc' := 28) rfl dX0_begins_27 rfl (ihN rfl) rfl ?_
  refine bplain (pc' := 29) rfl dX0_begins_28 rfl (ihN rfl) rfl ?_
  refine bjmp (tg := 37) (pc' := 32) rfl (by decide) (by decide) rfl dX0_begins_29 rfl (ihN rfl) rfl ?_
  refine bplain (pc' := 33) rfl dX0_begins_32 rfl (ihN rfl) rfl ?_
  refine bplain (pc' := 34) rfl dX0_begins_33 rfl (ihN rfl) rfl ?_
  refine bjmp (tg := 41) (pc' := 37) rfl (by decide) (by decide) rfl dX0_begins_34 rfl (ihN rfl) rfl ?_
  exact bnop0 rfl (by decide)
theorem bf_X0_begins_37 : BOKt mt tX0_begins 294 37 b_X0_begins_37 := by
  refine bnop1 ?_
  refine bplain (pc' := 38) rfl dX0_begins_37 rfl (ihN rfl) rfl ?_
  refine bjmp (tg := 42) (pc' := 41) rfl (by decide) (by decide) rfl dX0_begins_38 rfl (ihN rfl) rfl ?_
  exact trivial
theorem bf_X0_begins_41 : BOKt mt tX0_begins 294 41 b_X0_begins_41 := by
  refine bnop1 ?_
  refine bplain (pc' := 42) rfl dX0_begins_41 rfl (ihN rfl) rfl ?_
  exact bnop0 rfl (by decide)
theorem bf_X0_begins_42 : BOKt mt tX0_begins 294 42 b_X0_begins_42 := by
  refine bnop1 ?_
  refine bplain (pc' := 43) rfl dX0_begins_42 rfl (ihN rfl) rfl ?_
  refine bplain (pc' := 44) rfl dX0_begins_43 rfl (ihN rfl) rfl ?_
  refine bthr (pc' := 47) rfl dX0_begins_44 rfl (lkf0 q1112 lf_113) (trivial) (ihN rfl) rfl ?_
  refine bplain (pc' := 48) rfl dX0_begins_47 rfl (ihN rfl) rfl ?_
  refine bplain (pc' := 49) rfl dX0_begins_48 rfl (ihN rfl) rfl ?_
  refine bplain (pc' := 51) rfl dX0_begins_49 rfl (ihN rfl) rfl ?_
  refine bplain (pc' := 52) rfl dX0_begins_51 rfl (ihN rfl) rfl ?_
  refine bplain (pc' := 54) rfl dX0_begins_52 rfl (ihN rfl) rfl ?_
  exact bnop0 rfl (by decide)
theorem bf_X0_begins_54 : BOKt mt tX0_begins 294 54 b_X0_begins_54 := by
  refine bnop1 ?_
  refine bplain (pc' := 56) rfl dX0_begins_54 rfl (ihN rfl) rfl ?_
  refine bjmp (tg := 84) (pc' := 59) rfl (by decide) (by decide) rfl dX0_begins_56 rfl (ihN rfl) rfl ?_
  refine bplain (pc' := 61) rfl dX0_begins_59 rfl (ihN rfl) rfl ?_
  refine bplain (pc' := 63) rfl dX0_begins_61 rfl (ihN rfl) rfl ?_
  refine bthr (pc' := 66) rfl dX0_begins_63 rfl (lkf1 (host := "StrideTurns") (by decide) q1231 lf_216) (trivial) (ihN rfl) rfl ?_
  refine bjmp (tg := 84) (pc' := 69) rfl (by decide) (by decide) rfl dX0_begins_66 rfl (ihN rfl) rfl ?_
  refine bplain (pc' := 71) rfl dX0_begins_69 rfl (ihN rfl) rfl ?_
  refine bthr (pc' := 74) rfl dX0_begins_71 rfl (lkf1 (host := "StrideTurns") (by decide) q1234 lf_218) (trivial) (ihN rfl) rfl ?_
  refine bplain (pc' := 76) rfl dX0_begins_74 rfl (ihN rfl) rfl ?_
  refine bplain (pc' := 77) rfl dX0_begins_76 rfl (ihN rfl) rfl ?_
  refine bplain (pc' := 78) rfl dX0_begins_77 rfl (ihN rfl) rfl ?_
  refine bplain (pc' := 81) rfl dX0_begins_78 rfl (ihN rfl) rfl ?_
  refine bjmp (tg := 54) (pc' := 84) rfl (by decide) (by decide) rfl dX0_begins_81 rfl (ihN rfl) rfl ?_
  exact trivial
theorem bf_X0_begins_84 : BOKt mt tX0_begins 294 84 b_X0_begins_84 := by
  refine bnop1 ?_
  refine bplain (pc' := 87) rfl dX0_begins_84 rfl (ihN rfl) rfl ?_
  refine bjmp (tg := 6) (pc' := 90) rfl (by decide) (by decide) rfl dX0_begins_87 rfl (ihN rfl) rfl ?_
  exact trivial
theorem bf_X0_begins_90 : BOKt mt tX0_begins 294 90 b_X0_begins_90 := by
  refine bplain (pc' := 91) rfl dX0_begins_90 rfl (ihN rfl) rfl ?_
  refine bplain (pc' := 92) rfl dX0_begins_91 rfl (ihN rfl) rfl ?_
  exact bnop0 rfl (by decide)
theorem bf_X0_begins_92 : BOKt mt tX0_begins 294 92 b_X0_begins_92 := by
  refine bnop1 ?_
  refine bplain (pc' := 93) rfl dX0_begins_92 rfl (ihN rfl) rfl ?_
  refine bplain (pc' := 94) rfl dX0_begins_93 rfl (ihN rfl) rfl ?_
  refine bjmp (tg := 110) (pc' := 97) rfl (by decide) (by decide) rfl dX0_begins_94 rfl (ihN rfl) rfl ?_
  refine bplain (pc' := 98) rfl dX0_begins_97 rfl (ihN rfl) rfl ?_
  refine bthr (pc' := 101) rfl dX0_begins_98 rfl (lkf0 q1126 lf_128) (trivial) (ihN rfl) rfl ?_
  refine bplain (pc' := 102) rfl dX0_begins_101 rfl (ihN rfl) rfl ?_
  refine bplain (pc' := 103) rfl dX0_begins_102 rfl (ihN rfl) rfl ?_
  refine bplain (pc' := 104) rfl dX0_begins_103 rfl (ihN rfl) rfl ?_
  refine bplain (pc' := 107) rfl dX0_begins_104 rfl (ihN rfl) rfl ?_
  refine bjmp (tg := 92) (pc' := 110) rfl (by decide) (by decide) rfl dX0_begins_107 rfl (ihN rfl) rfl ?_
  exact trivial
theorem bf_X0_begins_110 : BOKt mt tX0_begins 294 110 b_X0_begins_110 := by
  refine bplain (pc' := 111) rfl dX0_begins_110 rfl (ihN rfl) rfl ?_
  refine bplain (pc' := 112) rfl dX0_begins_111 rfl (ihN rfl) rfl ?_
  refine bobj (pc' := 115) rfl dX0_begins_112 rfl (⟨lkf0 q1130 lf_463, lkp0 lp_464⟩) (ihN rfl) rfl ?_
  refine bplain (pc' := 116) rfl dX0_begins_115 rfl (ihN rfl) rfl ?_
  refine bplain (pc' := 117) rfl dX0_begins_116 rfl (ihN rfl) rfl ?_
  refine bobj (pc' := 120) rfl dX0_begins_117 rfl (⟨lkf0 q1131 lf_465, lkp0 lp_466⟩) (ihN rfl) rfl ?_
  refine bplain (pc' := 121) rfl dX0_begins_120 rfl (ihN rfl) rfl ?_
  refine bplain (pc' := 122) rfl dX0_begins_121 rfl (ihN rfl) rfl ?_
  exact bnop0 rfl (by decide)
theorem bf_X0_begins_122 : BOKt mt tX0_begins 294 122 b_X0_begins_122 := by
  refine bnop1 ?_
  refine bplain (pc' := 123) rfl dX0_begins_122 rfl (ihN rfl) rfl ?_
  refine bplain (pc' := 124) rfl dX0_begins_123 rfl (ihN rfl) rfl ?_
  refine bthr (pc' := 127) rfl dX0_begins_124 rfl (lkf0 q1118 lf_270) (trivial) (ihN rfl) rfl ?_
  refine bjmp (tg := 146) (pc' := 130) rfl (by decide) (by decide) rfl dX0_begins_127 rfl (ihN rfl) rfl ?_
  refine bplain (pc' := 131) rfl dX0_begins_130 rfl (ihN rfl) rfl ?_
  refine bthr (pc' := 134) rfl dX0_begins_131 rfl (lkf0 q1128 lf_131) (trivial) (ihN rfl) rfl ?_
  refine bplain (pc' := 135) rfl dX0_begins_134 rfl (ihN rfl) rfl ?_
  refine bplain (pc' := 136) rfl dX0_begins_135 rfl (ihN rfl) rfl ?_
  refine bplain (pc' := 137) rfl dX0_begins_136 rfl (ihN rfl) rfl ?_
  refine bcall (pc' := 140) rfl dX0_begins_137 rfl (trivial) (lcv (n := 1) rfl (pvc (lfv mt_X2_begins ⟨by decide, by decide⟩ mok_X2_begins ⟨by decide, by decide⟩ ⟨q2354, ln_115, Or.inl ⟨q2353, Or.inl q2355⟩⟩) (trivial)) (Or.inl (by decide))) (ihN rfl) rfl ?_
  refine bplain (pc' := 143) rfl dX0_begins_140 rfl (ihN rfl) rfl ?_
  refine bjmp (tg := 122) (pc' := 146) rfl (by decide) (by decide) rfl dX0_begins_143 rfl (ihN rfl) rfl ?_
  exact trivial
theorem bf_X0_begins_146 : BOKt mt tX0_begins 294 146 b_X0_begins_146 := by
  refine bret (pc' := 147) rfl dX0_begins_146 rfl (rfl) (ihN rfl) rfl ?_
  exact trivial
theorem tf_X0_begins : ∀ x ∈ tb_X0_begins, BOK mt 294 x.1 x.2 := tb_c mt_X0_begins bf_X0_begins_0 (tb_c mt_X0_begins bf_X0_begins_6 (tb_c mt_X0_begins bf_X0_begins_37 (tb_c mt_X0_begins bf_X0_begins_41 (tb_c mt_X0_begins bf_X0_begins_42 (tb_c mt_X0_begins bf_X0_begins_54 (tb_c mt_X0_begins bf_X0_begins_84 (tb_c mt_X0_begins bf_X0_begins_90 (tb_c mt_X0_begins bf_X0_begins_92 (tb_c mt_X0_begins bf_X0_begins_110 (tb_c mt_X0_begins bf_X0_begins_122 (tb_c mt_X0_begins bf_X0_begins_146 (tb_n))))))))))))
theorem bf_X2_isLeft_0 : BOKt mt tX2_isLeft 295 0 b_X2_isLeft_0 := by
  refine bplain (pc' := 1) rfl dX2_isLeft_0 rfl (ihN rfl) rfl ?_
  refine bthr (pc' := 4) rfl dX2_isLeft_1 rfl (lkf0 q1089 lf_461) (trivial) (ihN rfl) rfl ?_
  refine bjmp (tg := 28) (pc' := 7) rfl (by decide) (by decide) rfl dX2_isLeft_4 rfl (ihN rfl) rfl ?_
  refine bplain (pc' := 8) rfl dX2_isLeft_7 rfl (ihN rfl) rfl ?_
  refine bthr (pc' := 11) rfl dX2_isLeft_8 rfl (lkf0 q1087 lf_457) (trivial) (ihN rfl) rfl ?_
  refine bplain (pc' := 12) rfl dX2_isLeft_11 rfl (ihN rfl) rfl ?_
  refine bthr (pc' := 15) rfl dX2_isLeft_12 rfl (lkf0 q1090 lf_104) (trivial) (ihN rfl) rfl ?_
  refine bthr (pc' := 18) rfl dX2_isLeft_15 rfl (lkf1 (host := "StrideTurns") (by decide) q1116 lf_116) (trivial) (ihN rfl) rfl ?_
  refine bcall (pc' := 21) rfl dX2_isLeft_18 rfl (trivial) (lcv (n := 0) rfl (pvc (lfv mt_J20_size ⟨by decide, by decide⟩ mok_J20_size ⟨by decide, by decide⟩ ⟨q1648, ln_40, Or.inl ⟨q2361, Or.inl q1649⟩⟩) (trivial)) (Or.inl (by decide))) (ihN rfl) rfl ?_
  refine bjmp (tg := 28) (pc' := 24) rfl (by decide) (by decide) rfl dX2_isLeft_21 rfl (ihN rfl) rfl ?_
  refine bplain (pc' := 25) rfl dX2_isLeft_24 rfl (ihN rfl) rfl ?_
  refine bjmp (tg := 29) (pc' := 28) rfl (by decide) (by decide) rfl dX2_isLeft_25 rfl (ihN rfl) rfl ?_
  exact trivial
theorem bf_X2_isLeft_28 : BOKt mt tX2_isLeft 295 28 b_X2_isLeft_28 := by
  refine bnop1 ?_
  refine bplain (pc' := 29) rfl dX2_isLeft_28 rfl (ihN rfl) rfl ?_
  exact bnop0 rfl (by decide)
theorem bf_X2_isLeft_29 : BOKt mt tX2_isLeft 295 29 b_X2_isLeft_29 := by
  refine bnop1 ?_
  refine bret (pc' := 30) rfl dX2_isLeft_29 rfl (Or.inr ⟨rfl, rfl⟩) (ihN rfl) rfl ?_
  exact trivial
theorem tf_X2_isLeft : ∀ x ∈ tb_X2_isLeft, BOK mt 295 x.1 x.2 := tb_c mt_X2_isLeft bf_X2_isLeft_0 (tb_c mt_X2_isLeft bf_X2_isLeft_28 (tb_c mt_X2_isLeft bf_X2_isLeft_29 (tb_n)))
theorem bf_X2_wrong_0 : BOKt mt tX2_wrong 296 0 b_X2_wrong_0 := by
  refine bplain (pc' := 1) rfl dX2_wrong_0 rfl (ihN rfl) rfl ?_
  refine bthr (pc' := 4) rfl dX2_wrong_1 rfl (lkf1 (host := "StrideTurns") (by decide) q1667 lf_310) (trivial) (ihN rfl) rfl ?_
  refine bplain (pc' := 5) rfl dX2_wrong_4 rfl (ihN rfl) rfl ?_
  refine bjmp (tg := 10) (pc' := 8) rfl (by decide) (by decide) rfl dX2_wrong_5 rfl (ihN rfl) rfl ?_
  refine bplain (pc' := 9) rfl dX2_wrong_8 rfl (ihN rfl) rfl ?_
  refine bret (pc' := 10) rfl dX2_wrong_9 rfl (Or.inl ⟨rfl, rfl⟩) (ihN rfl) rfl ?_
  exact trivial
theorem bf_X2_wrong_10 : BOKt mt tX2_wrong 296 10 b_X2_wrong_10 := by
  refine bplain (pc' := 11) rfl dX2_wrong_10 rfl (ihN rfl) rfl ?_
  refine bthr (pc' := 14) rfl dX2_wrong_11 rfl (lkf0 q1090 lf_104) (trivial) (ihN rfl) rfl ?_
  refine bplain (pc' := 15) rfl dX2_wrong_14 rfl (ihN rfl) rfl ?_
  refine bthr (pc' := 18) rfl dX2_wrong_15 rfl (lkf1 (host := "StrideTurns") (by decide) q1667 lf_310) (trivial) (ihN rfl) rfl ?_
  refine bcall (pc' := 21) rfl dX2_wrong_18 rfl (trivial) (lcv (n := 1) rfl (pvc (lfv mt_X0_numbers ⟨by decide, by decide⟩ mok_X0_numbers ⟨by decide, by decide⟩ ⟨q1855, ln_376, Or.inr (Or.inl ⟨rfl, "StrideTurns", q2386, Or.inl qs17⟩)⟩) (trivial)) (Or.inl (by decide))) (ihN rfl) rfl ?_
  refine bplain (pc' := 22) rfl dX2_wrong_21 rfl (ihN rfl) rfl ?_
  refine bplain (pc' := 23) rfl dX2_wrong_22 rfl (ihN rfl) rfl ?_
  refine bjmp (tg := 30) (pc' := 26) rfl (by decide) (by decide) rfl dX2_wrong_23 rfl (ihN rfl) rfl ?_
  refine bplain (pc' := 27) rfl dX2_wrong_26 rfl (ihN rfl) rfl ?_
  refine bjmp (tg := 59) (pc' := 30) rfl (by decide) (by decide) rfl dX2_wrong_27 rfl (ihN rfl) rfl ?_
  exact trivial
theorem bf_X2_wrong_30 : BOKt mt tX2_wrong 296 30 b_X2_wrong_30 := by
  refine bplain (pc' := 31) rfl dX2_wrong_30 rfl (ihN rfl) rfl ?_
  refine bplain (pc' := 32) rfl dX2_wrong_31 rfl (ihN rfl) rfl ?_
  refine bthr (pc' := 35) rfl dX2_wrong_32 rfl (lkf1 (host := "StrideTurns") (by decide) q1679 lf_308) (trivial) (ihN rfl) rfl ?_
  refine bplain (pc' := 36) rfl dX2_wrong_35 rfl (ihN rfl) rfl ?_
  refine bthr (pc' := 39) rfl dX2_wrong_36 rfl (lkf0 q1085 lf_459) (trivial) (ihN rfl) rfl ?_
  refine bplain (pc' := 40) rfl dX2_wrong_39 rfl (ihN rfl) rfl ?_
  refine bthr (pc' := 43) rfl dX2_wrong_40 rfl (lkf0 q1088 lf_455) (trivial) (ihN rfl) rfl ?_
  refine bcall (pc' := 48) rfl dX2_wrong_43 rfl (trivial) (lcl (n := 2) (j := 2) rfl q2388 ln_252 rfl (plc (lfl (q := 31) rfl ⟨by decide, by decide⟩ rfl mt_X7_lambda_new_0 ⟨by decide, by decide⟩ mok_X7_lambda_new_0 ll_388 ll_389) (plc (lfl (q := 35) rfl ⟨by decide, by decide⟩ rfl mt_X7_lambda_moves_1 ⟨by decide, by decide⟩ mok_X7_lambda_moves_1 ll_386 ll_387) (trivial)))) (ihN rfl) rfl ?_
  refine bcall (pc' := 51) rfl dX2_wrong_48 rfl (trivial) (lcv (n := 1) rfl (pvc (lfv mt_X4_has ⟨by decide, by decide⟩ mok_X4_has ⟨by decide, by decide⟩ ⟨q1889, ln_222, Or.inl ⟨q2389, Or.inl q1890⟩⟩) (trivial)) (Or.inl (by decide))) (ihN rfl) rfl ?_
  refine bjmp (tg := 58) (pc' := 54) rfl (by decide) (by decide) rfl dX2_wrong_51 rfl (ihN rfl) rfl ?_
  refine bplain (pc' := 55) rfl dX2_wrong_54 rfl (ihN rfl) rfl ?_
  refine bjmp (tg := 59) (pc' := 58) rfl (by decide) (by decide) rfl dX2_wrong_55 rfl (ihN rfl) rfl ?_
  exact trivial
theorem bf_X2_wrong_58 : BOKt mt tX2_wrong 296 58 b_X2_wrong_58 := by
  refine bplain (pc' := 59) rfl dX2_wrong_58 rfl (ihN rfl) rfl ?_
  exact bnop0 rfl (by decide)
theorem bf_X2_wrong_59 : BOKt mt tX2_wrong 296 59 b_X2_wrong_59 := by
  refine bnop1 ?_
  refine bret (pc' := 60) rfl dX2_wrong_59 rfl (Or.inl ⟨rfl, rfl⟩) (ihN rfl) rfl ?_
  exact trivial
theorem tf_X2_wrong : ∀ x ∈ tb_X2_wrong, BOK mt 296 x.1 x.2 := tb_c mt_X2_wrong bf_X2_wrong_0 (tb_c mt_X2_wrong bf_X2_wrong_10 (tb_c mt_X2_wrong bf_X2_wrong_30 (tb_c mt_X2_wrong bf_X2_wrong_58 (tb_c mt_X2_wrong bf_X2_wrong_59 (tb_n)))))
theorem bf_X2_against_0 : BOKt mt tX2_against 297 0 b_X2_against_0 := by
  refine bplain (pc' := 1) rfl dX2_against_0 rfl (ihN rfl) rfl ?_
  refine bplain (pc' := 2) rfl dX2_against_1 rfl (ihN rfl) rfl ?_
  refine bplain (pc' := 3) rfl dX2_against_2 rfl (ihN rfl) rfl ?_
  refine bcall (pc' := 6) rfl dX2_against_3 rfl (trivial) (lcv (n := 1) rfl (pvc (lfv mt_X6_at ⟨by decide, by decide⟩ mok_X6_at ⟨by decide, by decide⟩ ⟨q1785, ln_342, Or.inl ⟨q2381, Or.inl q1786⟩⟩) (trivial)) (Or.inl (by decide))) (ihN rfl) rfl ?_
  refine bcall (pc' := 9) rfl dX2_against_6 rfl (trivial) (lcv (n := 1) rfl (pvc (lfv mt_X2_wrong ⟨by decide, by decide⟩ mok_X2_wrong ⟨by decide, by decide⟩ ⟨q2383, ln_467, Or.inl ⟨q2382, Or.inl q2384⟩⟩) (trivial)) (Or.inl (by decide))) (ihN rfl) rfl ?_
  refine bplain (pc' := 10) rfl dX2_against_9 rfl (ihN rfl) rfl ?_
  refine bplain (pc' := 11) rfl dX2_against_10 rfl (ihN rfl) rfl ?_
  refine bplain (pc' := 12) rfl dX2_against_11 rfl (ihN rfl) rfl ?_
  refine bjmp (tg := 33) (pc' := 15) rfl (by decide) (by decide) rfl dX2_against_12 rfl (ihN rfl) rfl ?_
  refine bplain (pc' := 16) rfl dX2_against_15 rfl (ihN rfl) rfl ?_
  refine bplain (pc' := 17) rfl dX2_against_16 rfl (ihN rfl) rfl ?_
  refine bcall (pc' := 20) rfl dX2_against_17 rfl (trivial) (lcv (n := 1) rfl (pvc (lfv mt_X6_looks ⟨by decide, by decide⟩ mok_X6_looks ⟨by decide, by decide⟩ ⟨q2015, ln_222, Or.inl ⟨q2390, Or.inl q2016⟩⟩) (trivial)) (Or.inl (by decide))) (ihN rfl) rfl ?_
  refine bjmp (tg := 33) (pc' := 23) rfl (by decide) (by decide) rfl dX2_against_20 rfl (ihN rfl) rfl ?_
  refine bplain (pc' := 24) rfl dX2_against_23 rfl (ihN rfl) rfl ?_
  refine bplain (pc' := 25) rfl dX2_against_24 rfl (ihN rfl) rfl ?_
  refine bplain (pc' := 26) rfl dX2_against_25 rfl (ihN rfl) rfl ?_
  refine bcall (pc' := 29) rfl dX2_against_26 rfl (trivial) (lcv (n := 1) rfl (pvc (lfv mt_X6_at ⟨by decide, by decide⟩ mok_X6_at ⟨by decide, by decide⟩ ⟨q1785, ln_342, Or.inl ⟨q2381, Or.inl q1786⟩⟩) (trivial)) (Or.inl (by decide))) (ihN rfl) rfl ?_
  refine bcall (pc' := 32) rfl dX2_against_29 rfl (trivial) (lcv (n := 1) rfl (pvc (lfv mt_X2_wrong ⟨by decide, by decide⟩ mok_X2_wrong ⟨by decide, by decide⟩ ⟨q2383, ln_467, Or.inl ⟨q2382, Or.inl q2384⟩⟩) (trivial)) (Or.inl (by decide))) (ihN rfl) rfl ?_
  refine bplain (pc' := 33) rfl dX2_against_32 rfl (ihN rfl) rfl ?_
  exact bnop0 rfl (by decide)
theorem bf_X2_against_33 : BOKt mt tX2_against 297 33 b_X2_against_33 := by
  refine bplain (pc' := 34) rfl dX2_against_33 rfl (ihN rfl) rfl ?_
  refine bplain (pc' := 35) rfl dX2_against_34 rfl (ihN rfl) rfl ?_
  refine bjmp (tg := 50) (pc' := 38) rfl (by decide) (by decide) rfl dX2_against_35 rfl (ihN rfl) rfl ?_
  refine bplain (pc' := 39) rfl dX2_against_38 rfl (ihN rfl) rfl ?_
  refine bplain (pc' := 40) rfl dX2_against_39 rfl (ihN rfl) rfl ?_
  refine bplain (pc' := 41) rfl dX2_against_40 rfl (ihN rfl) rfl ?_
  refine bcall (pc' := 44) rfl dX2_against_41 rfl (trivial) (lcv (n := 1) rfl (pvc (lfv mt_X6_at ⟨by decide, by decide⟩ mok_X6_at ⟨by decide, by decide⟩ ⟨q1785, ln_342, Or.inl ⟨q2381, Or.inl q1786⟩⟩) (trivial)) (Or.inl (by decide))) (ihN rfl) rfl ?_
  refine bcall (pc' := 47) rfl dX2_against_44 rfl (trivial) (lcv (n := 1) rfl (pvc (lfv mt_X2_wrong ⟨by decide, by decide⟩ mok_X2_wrong ⟨by decide, by decide⟩ ⟨q2383, ln_467, Or.inl ⟨q2382, Or.inl q2384⟩⟩) (trivial)) (Or.inl (by decide))) (ihN rfl) rfl ?_
  refine bjmp (tg := 51) (pc' := 50) rfl (by decide) (by decide) rfl dX2_against_47 rfl (ihN rfl) rfl ?_
  exact trivial
theorem bf_X2_against_50 : BOKt mt tX2_against 297 50 b_X2_against_50 := by
  refine bplain (pc' := 51) rfl dX2_against_50 rfl (ihN rfl) rfl ?_
  exact bnop0 rfl (by decide)
theorem bf_X2_against_51 : BOKt mt tX2_against 297 51 b_X2_against_51 := by
  refine bnop1 ?_
  refine bret (pc' := 52) rfl dX2_against_51 rfl (Or.inl ⟨rfl, rfl⟩) (ihN rfl) rfl ?_
  exact trivial
theorem tf_X2_against : ∀ x ∈ tb_X2_against, BOK mt 297 x.1 x.2 := tb_c mt_X2_against bf_X2_against_0 (tb_c mt_X2_against bf_X2_against_33 (tb_c mt_X2_against bf_X2_against_50 (tb_c mt_X2_against bf_X2_against_51 (tb_n))))
theorem bf_X4_at_0 : BOKt mt tX4_at 298 0 b_X4_at_0 := by
  refine bplain (pc' := 1) rfl dX4_at_0 rfl (ihN rfl) rfl ?_
  refine bthr (pc' := 4) rfl dX4_at_1 rfl (lkf0 q1227 lf_211) (trivial) (ihN rfl) rfl ?_
  exact bsw rfl dX4_at_4 (swt (by decide) (by decide) (by decide) (by decide) (by decide +kernel) (by decide +kernel)) (by decide +kernel) (ihN rfl)
theorem bf_X4_at_32 : BOKt mt tX4_at 298 32 b_X4_at_32 := by
  refine bplain (pc' := 33) rfl dX4_at_32 rfl (ihN rfl) rfl ?_
  refine bthr (pc' := 36) rfl dX4_at_33 rfl (lkf0 q1225 lf_214) (trivial) (ihN rfl) rfl ?_
  refine bthr (pc' := 39) rfl dX4_at_36 rfl (lkc (nm := "[S") q1320 lg_21 lb_22) (Or.inl rfl) (ihN rfl) rfl ?_
  refine bplain (pc' := 40) rfl dX4_at_39 rfl (ihN rfl) rfl ?_
  refine bplain (pc' := 41) rfl dX4_at_40 rfl (ihN rfl) rfl ?_
  refine bplain (pc' := 42) rfl dX4_at_41 rfl (ihN rfl) rfl ?_
  refine bret (pc' := 43) rfl dX4_at_42 rfl (rfl) (ihN rfl) rfl ?_
  exact trivial
theorem bf_X4_at_43 : BOKt mt tX4_at 298 43 b_X4_at_43 := by
  refine bplain (pc' := 44) rfl dX4_at_43 rfl (ihN rfl) rfl ?_
  refine bthr (pc' := 47) rfl dX4_at_44 rfl (lkf0 q1225 lf_214) (trivial) (ihN rfl) rfl ?_
  refine bthr (pc' := 50) rfl dX4_at_47 rfl (lkc (nm := "[I") q1321 lg_24 lb_25) (Or.inl rfl) (ihN rfl) rfl ?_
  refine bplain (pc' := 51) rfl dX4_at_50 rfl (ihN rfl) rfl ?_
  refine bplain (pc' := 52) rfl dX4_at_51 rfl (ihN rfl) rfl ?_
  refine bplain (pc' := 53) rfl dX4_at_52 rfl (ihN rfl) rfl ?_
  refine bret (pc' := 54) rfl dX4_at_53 rfl (rfl) (ihN rfl) rfl ?_
  exact trivial
theorem bf_X4_at_54 : BOKt mt tX4_at 298 54 b_X4_at_54 := by
  refine bplain (pc' := 55) rfl dX4_at_54 rfl (ihN rfl) rfl ?_
  refine bthr (pc' := 58) rfl dX4_at_55 rfl (lkf0 q1225 lf_214) (trivial) (ihN rfl) rfl ?_
  refine bthr (pc' := 61) rfl dX4_at_58 rfl (lkc (nm := "[F") q1322 lg_231 lb_244) (Or.inl rfl) (ihN rfl) rfl ?_
  refine bplain (pc' := 62) rfl dX4_at_61 rfl (ihN rfl) rfl ?_
  refine bplain (pc' := 63) rfl dX4_at_62 rfl (ihN rfl) rfl ?_
  refine bplain (pc' := 64) rfl dX4_at_63 rfl (ihN rfl) rfl ?_
  refine bret (pc' := 65) rfl dX4_at_64 rfl (rfl) (ihN rfl) rfl ?_
  exact trivial
theorem bf_X4_at_65 : BOKt mt tX4_at 298 65 b_X4_at_65 := by
  refine bplain (pc' := 66) rfl dX4_at_65 rfl (ihN rfl) rfl ?_
  refine bthr (pc' := 69) rfl dX4_at_66 rfl (lkf0 q1225 lf_214) (trivial) (ihN rfl) rfl ?_
  refine bthr (pc' := 72) rfl dX4_at_69 rfl (lkc (nm := "[D") q1324 lg_233 lb_246) (Or.inl rfl) (ihN rfl) rfl ?_
  refine bplain (pc' := 73) rfl dX4_at_72 rfl (ihN rfl) rfl ?_
  refine bplain (pc' := 74) rfl dX4_at_73 rfl (ihN rfl) rfl ?_
  refine bret (pc' := 75) rfl dX4_at_74 rfl (rfl) (ihN rfl) rfl ?_
  exact trivial
theorem tf_X4_at : ∀ x ∈ tb_X4_at, BOK mt 298 x.1 x.2 := tb_c mt_X4_at bf_X4_at_0 (tb_c mt_X4_at bf_X4_at_32 (tb_c mt_X4_at bf_X4_at_43 (tb_c mt_X4_at bf_X4_at_54 (tb_c mt_X4_at bf_X4_at_65 (tb_n)))))
theorem bf_X2_value_0 : BOKt mt tX2_value 299 0 b_X2_value_0 := by
  refine bplain (pc' := 1) rfl dX2_value_0 rfl (ihN rfl) rfl ?_
  refine bthr (pc' := 4) rfl dX2_value_1 rfl (lkf1 (host := "StrideTurns") (by decide) q1667 lf_310) (trivial) (ihN rfl) rfl ?_
  refine bplain (pc' := 5) rfl dX2_value_4 rfl (ihN rfl) rfl ?_
  refine bjmp (tg := 21) (pc' := 8) rfl (by decide) (by decide) rfl dX2_value_5 rfl (ihN rfl) rfl ?_
  refine bplain (pc' := 9) rfl dX2_value_8 rfl (ihN rfl) rfl ?_
  refine bthr (pc' := 12) rfl dX2_value_9 rfl (lkf1 (host := "StrideTurns") (by decide) q1679 lf_308) (trivial) (ihN rfl) rfl ?_
  refine bplain (pc' := 13) rfl dX2_value_12 rfl (ihN rfl) rfl ?_
  refine bplain (pc' := 14) rfl dX2_value_13 rfl (ihN rfl) rfl ?_
  refine bcall (pc' := 19) rfl dX2_value_14 rfl (trivial) (lcl (n := 2) (j := 2) rfl q2388 ln_252 rfl (plc (lfl (q := 31) rfl ⟨by decide, by decide⟩ rfl mt_X7_lambda_new_0 ⟨by decide, by decide⟩ mok_X7_lambda_new_0 ll_388 ll_389) (plc (lfl (q := 35) rfl ⟨by decide, by decide⟩ rfl mt_X7_lambda_moves_1 ⟨by decide, by decide⟩ mok_X7_lambda_moves_1 ll_386 ll_387) (trivial)))) (ihN rfl) rfl ?_
  refine bplain (pc' := 20) rfl dX2_value_19 rfl (ihN rfl) rfl ?_
  refine bret (pc' := 21) rfl dX2_value_20 rfl (rfl) (ihN rfl) rfl ?_
  exact trivial
theorem bf_X2_value_21 : BOKt mt tX2_value 299 21 b_X2_value_21 := by
  refine bplain (pc' := 22) rfl dX2_value_21 rfl (ihN rfl) rfl ?_
  refine bthr (pc' := 25) rfl dX2_value_22 rfl (lkf1 (host := "StrideTurns") (by decide) q1679 lf_308) (trivial) (ihN rfl) rfl ?_
  refine bplain (pc' := 26) rfl dX2_value_25 rfl (ihN rfl) rfl ?_
  refine bthr (pc' := 29) rfl dX2_value_26 rfl (lkf0 q1085 lf_459) (trivial) (ihN rfl) rfl ?_
  refine bplain (pc' := 30) rfl dX2_value_29 rfl (ihN rfl) rfl ?_
  refine bthr (pc' := 33) rfl dX2_value_30 rfl (lkf0 q1088 lf_455) (trivial) (ihN rfl) rfl ?_
  refine bcall (pc' := 38) rfl dX2_value_33 rfl (trivial) (lcl (n := 2) (j := 2) rfl q2388 ln_252 rfl (plc (lfl (q := 31) rfl ⟨by decide, by decide⟩ rfl mt_X7_lambda_new_0 ⟨by decide, by decide⟩ mok_X7_lambda_new_0 ll_388 ll_389) (plc (lfl (q := 35) rfl ⟨by decide, by decide⟩ rfl mt_X7_lambda_moves_1 ⟨by decide, by decide⟩ mok_X7_lambda_moves_1 ll_386 ll_387) (trivial)))) (ihN rfl) rfl ?_
  refine bplain (pc' := 39) rfl dX2_value_38 rfl (ihN rfl) rfl ?_
  refine bplain (pc' := 41) rfl dX2_value_39 rfl (ihN rfl) rfl ?_
  refine bplain (pc' := 42) rfl dX2_value_41 rfl (ihN rfl) rfl ?_
  refine bthr (pc' := 45) rfl dX2_value_42 rfl (lkf1 (host := "StrideTurns") (by decide) q1667 lf_310) (trivial) (ihN rfl) rfl ?_
  refine bplain (pc' := 46) rfl dX2_value_45 rfl (ihN rfl) rfl ?_
  refine bplain (pc' := 47) rfl dX2_value_46 rfl (ihN rfl) rfl ?_
  refine bplain (pc' := 48) rfl dX2_value_47 rfl (ihN rfl) rfl ?_
  refine bplain (pc' := 49) rfl dX2_value_48 rfl (ihN rfl) rfl ?_
  refine bplain (pc' := 50) rfl dX2_value_49 rfl (ihN rfl) rfl ?_
  refine bthr (pc' := 53) rfl dX2_value_50 rfl (lkf0 q1090 lf_104) (trivial) (ihN rfl) rfl ?_
  refine bthr (pc' := 56) rfl dX2_value_53 rfl (lkf1 (host := "StrideTurns") (by decide) q1125 lf_126) (trivial) (ihN rfl) rfl ?_
  refine bplain (pc' := 57) rfl dX2_value_56 rfl (ihN rfl) rfl ?_
  refine bthr (pc' := 60) rfl dX2_value_57 rfl (lkf1 (host := "StrideTurns") (by decide) q1667 lf_310) (trivial) (ihN rfl) rfl ?_
  refine bplain (pc' := 61) rfl dX2_value_60 rfl (ihN rfl) rfl ?_
  refine bplain (pc' := 62) rfl dX2_value_61 rfl (ihN rfl) rfl ?_
  refine bjmp (tg := 83) (pc' := 65) rfl (by decide) (by decide) rfl dX2_value_62 rfl (ihN rfl) rfl ?_
  refine bplain (pc' := 66) rfl dX2_value_65 rfl (ihN rfl) rfl ?_
  refine bthr (pc' := 69) rfl dX2_value_66 rfl (lkf0 q1083 lf_108) (trivial) (ihN rfl) rfl ?_
  refine bplain (pc' := 70) rfl dX2_value_69 rfl (ihN rfl) rfl ?_
  refine bplain (pc' := 71) rfl dX2_value_70 rfl (ihN rfl) rfl ?_
  refine bjmp (tg := 83) (pc' := 74) rfl (by decide) (by decide) rfl dX2_value_71 rfl (ihN rfl) rfl ?_
  refine bplain (pc' := 75) rfl dX2_value_74 rfl (ihN rfl) rfl ?_
  refine bthr (pc' := 78) rfl dX2_value_75 rfl (lkf0 q1081 lf_106) (trivial) (ihN rfl) rfl ?_
  refine bplain (pc' := 79) rfl dX2_value_78 rfl (ihN rfl) rfl ?_
  refine bplain (pc' := 80) rfl dX2_value_79 rfl (ihN rfl) rfl ?_
  refine bjmp (tg := 99) (pc' := 83) rfl (by decide) (by decide) rfl dX2_value_80 rfl (ihN rfl) rfl ?_
  exact trivial
theorem bf_X2_value_83 : BOKt mt tX2_value 299 83 b_X2_value_83 := by
  refine bnop1 ?_
  refine bplain (pc' := 84) rfl dX2_value_83 rfl (ihN rfl) rfl ?_
  refine bthr (pc' := 87) rfl dX2_value_84 rfl (lkf0 q1090 lf_104) (trivial) (ihN rfl) rfl ?_
  refine bthr (pc' := 90) rfl dX2_value_87 rfl (lkf1 (host := "StrideTurns") (by decide) q1114 lf_113) (trivial) (ihN rfl) rfl ?_
  refine bplain (pc' := 91) rfl dX2_value_90 rfl (ihN rfl) rfl ?_
  refine bthr (pc' := 94) rfl dX2_value_91 rfl (lkf1 (host := "StrideTurns") (by decide) q1667 lf_310) (trivial) (ihN rfl) rfl ?_
  refine bplain (pc' := 95) rfl dX2_value_94 rfl (ihN rfl) rfl ?_
  refine bplain (pc' := 96) rfl dX2_value_95 rfl (ihN rfl) rfl ?_
  refine bcall (pc' := 99) rfl dX2_value_96 rfl (trivial) (lcv (n := 1) rfl (pvc (lfv mt_X4_at ⟨by decide, by decide⟩ mok_X4_at ⟨by decide, by decide⟩ ⟨q2401, ln_468, Or.inl ⟨q2400, Or.inl q2402⟩⟩) (trivial)) (Or.inl (by decide))) (ihN rfl) rfl ?_
  exact bnop0 rfl (by decide)
theorem bf_X2_value_99 : BOKt mt tX2_value 299 99 b_X2_value_99 := by
  refine bnop1 ?_
  refine bret (pc' := 100) rfl dX2_value_99 rfl (rfl) (ihN rfl) rfl ?_
  exact trivial
theorem tf_X2_value : ∀ x ∈ tb_X2_value, BOK mt 299 x.1 x.2 := tb_c mt_X2_value bf_X2_value_0 (tb_c mt_X2_value bf_X2_value_21 (tb_c mt_X2_value bf_X2_value_83 (tb_c mt_X2_value bf_X2_value_99 (tb_n))))
theorem bf_X1_isWhole_0 : BOKt mt tX1_isWhole 300 0 b_X1_isWhole_0 := by
  refine bplain (pc' := 1) rfl dX1_isWhole_0 rfl (ihN rfl) rfl ?_
  refine bthr (pc' := 4) rfl dX1_isWhole_1 rfl (lkf0 q250 lf_3) (trivial) (ihN rfl) rfl ?_
  refine bplain (pc' := 5) rfl dX1_isWhole_4 rfl (ihN rfl) rfl ?_
  refine bobj (pc' := 8) rfl dX1_isWhole_5 rfl (lkq0 lc_352 q2416) (ihN rfl) rfl ?_
  refine bobj (pc' := 11) rfl dX1_isWhole_8 rfl (lkq0 lc_469 q2417) (ihN rfl) rfl ?_
  refine bcall (pc' := 14) rfl dX1_isWhole_11 rfl (trivial) (lcs (l := q1214) mt_X0_in ⟨by decide, by decide⟩ mok_X0_in rfl ln_210 (Or.inr ⟨"StrideTurns", q2418⟩)) (ihN rfl) rfl ?_
  refine bjmp (tg := 24) (pc' := 17) rfl (by decide) (by decide) rfl dX1_isWhole_14 rfl (ihN rfl) rfl ?_
  refine bplain (pc' := 18) rfl dX1_isWhole_17 rfl (ihN rfl) rfl ?_
  refine bcall (pc' := 21) rfl dX1_isWhole_18 rfl (trivial) (lcv (n := 0) rfl (pvc (lfv mt_X1_isDoubtful ⟨by decide, by decide⟩ mok_X1_isDoubtful ⟨by decide, by decide⟩ ⟨q2257, ln_30, Or.inl ⟨q2419, Or.inl q2258⟩⟩) (trivial)) (Or.inl (by decide))) (ihN rfl) rfl ?_
  refine bjmp (tg := 28) (pc' := 24) rfl (by decide) (by decide) rfl dX1_isWhole_21 rfl (ihN rfl) rfl ?_
  exact bnop0 rfl (by decide)
theorem bf_X1_isWhole_24 : BOKt mt tX1_isWhole 300 24 b_X1_isWhole_24 := by
  refine bnop1 ?_
  refine bplain (pc' := 25) rfl dX1_isWhole_24 rfl (ihN rfl) rfl ?_
  refine bjmp (tg := 29) (pc' := 28) rfl (by decide) (by decide) rfl dX1_isWhole_25 rfl (ihN rfl) rfl ?_
  exact trivial
theorem bf_X1_isWhole_28 : BOKt mt tX1_isWhole 300 28 b_X1_isWhole_28 := by
  refine bplain (pc' := 29) rfl dX1_isWhole_28 rfl (ihN rfl) rfl ?_
  exact bnop0 rfl (by decide)
theorem bf_X1_isWhole_29 : BOKt mt tX1_isWhole 300 29 b_X1_isWhole_29 := by
  refine bnop1 ?_
  refine bret (pc' := 30) rfl dX1_isWhole_29 rfl (Or.inr ⟨rfl, rfl⟩) (ihN rfl) rfl ?_
  exact trivial
theorem tf_X1_isWhole : ∀ x ∈ tb_X1_isWhole, BOK mt 300 x.1 x.2 := tb_c mt_X1_isWhole bf_X1_isWhole_0 (tb_c mt_X1_isWhole bf_X1_isWhole_24 (tb_c mt_X1_isWhole bf_X1_isWhole_28 (tb_c mt_X1_isWhole bf_X1_isWhole_29 (tb_n))))
theorem bf_X0_formOf_0 : BOKt mt tX0_formOf 301 0 b_X0_formOf_0 := by
  refine bplain (pc' := 1) rfl dX0_formOf_0 rfl (ihN rfl) rfl ?_
  refine bthr (pc' := 4) rfl dX0_formOf_1 rfl (lkf1 (host := "StrideTurns") (by decide) q1669 lf_310) (trivial) (ihN rfl) rfl ?_
  refine bplain (pc' := 5) rfl dX0_formOf_4 rfl (ihN rfl) rfl ?_
  refine bjmp (tg := 12) (pc' := 8) rfl (by decide) (by decide) rfl dX0_formOf_5 rfl (ihN rfl) rfl ?_
  refine bplain (pc' := 9) rfl dX0_formOf_8 rfl (ihN rfl) rfl ?_
  refine bjmp (tg := 28) (pc' := 12) rfl (by decide) (by decide) rfl dX0_formOf_9 rfl (ihN rfl) rfl ?_
  exact trivial
theorem bf_X0_formOf_12 : BOKt mt tX0_formOf 301 12 b_X0_formOf_12 := by
  refine bplain (pc' := 13) rfl dX0_formOf_12 rfl (ihN rfl) rfl ?_
  refine bplain (pc' := 14) rfl dX0_formOf_13 rfl (ihN rfl) rfl ?_
  refine bthr (pc' := 17) rfl dX0_formOf_14 rfl (lkf0 q1112 lf_113) (trivial) (ihN rfl) rfl ?_
  refine bplain (pc' := 18) rfl dX0_formOf_17 rfl (ihN rfl) rfl ?_
  refine bthr (pc' := 21) rfl dX0_formOf_18 rfl (lkf1 (host := "StrideTurns") (by decide) q1669 lf_310) (trivial) (ihN rfl) rfl ?_
  refine bplain (pc' := 22) rfl dX0_formOf_21 rfl (ihN rfl) rfl ?_
  refine bthr (pc' := 25) rfl dX0_formOf_22 rfl (lkf1 (host := "StrideTurns") (by decide) q1229 lf_211) (trivial) (ihN rfl) rfl ?_
  refine bcall (pc' := 28) rfl dX0_formOf_25 rfl (trivial) (lcs (l := q1518) mt_J8_max ⟨by decide, by decide⟩ mok_J8_max rfl ln_252 (Or.inl q2424)) (ihN rfl) rfl ?_
  exact bnop0 rfl (by decide)
theorem bf_X0_formOf_28 : BOKt mt tX0_formOf 301 28 b_X0_formOf_28 := by
  refine bnop1 ?_
  refine bret (pc' := 29) rfl dX0_formOf_28 rfl (Or.inl ⟨rfl, rfl⟩) (ihN rfl) rfl ?_
  exact trivial
theorem tf_X0_formOf : ∀ x ∈ tb_X0_formOf, BOK mt 301 x.1 x.2 := tb_c mt_X0_formOf bf_X0_formOf_0 (tb_c mt_X0_formOf bf_X0_formOf_12 (tb_c mt_X0_formOf bf_X0_formOf_28 (tb_n)))
theorem bf_X0_widthOf_0 : BOKt mt tX0_widthOf 302 0 b_X0_widthOf_0 := by
  refine bplain (pc' := 1) rfl dX0_widthOf_0 rfl (ihN rfl) rfl ?_
  refine bthr (pc' := 4) rfl dX0_widthOf_1 rfl (lkf1 (host := "StrideTurns") (by decide) q1696 lf_322) (trivial) (ihN rfl) rfl ?_
  refine bcall (pc' := 7) rfl dX0_widthOf_4 rfl (trivial) (lcv (n := 0) rfl (pvc (lfv mt_X1_isWhole ⟨by decide, by decide⟩ mok_X1_isWhole ⟨by decide, by decide⟩ ⟨q2413, ln_30, Or.inl ⟨q2412, Or.inl q2414⟩⟩) (trivial)) (Or.inl (by decide))) (ihN rfl) rfl ?_
  refine bjmp (tg := 12) (pc' := 10) rfl (by decide) (by decide) rfl dX0_widthOf_7 rfl (ihN rfl) rfl ?_
  refine bplain (pc' := 11) rfl dX0_widthOf_10 rfl (ihN rfl) rfl ?_
  refine bret (pc' := 12) rfl dX0_widthOf_11 rfl (Or.inl ⟨rfl, rfl⟩) (ihN rfl) rfl ?_
  exact trivial
theorem bf_X0_widthOf_12 : BOKt mt tX0_widthOf 302 12 b_X0_widthOf_12 := by
  refine bplain (pc' := 13) rfl dX0_widthOf_12 rfl (ihN rfl) rfl ?_
  refine bplain (pc' := 14) rfl dX0_widthOf_13 rfl (ihN rfl) rfl ?_
  refine bplain (pc' := 15) rfl dX0_widthOf_14 rfl (ihN rfl) rfl ?_
  refine bcall (pc' := 18) rfl dX0_widthOf_15 rfl (trivial) (lcv (n := 1) rfl (pvc (lfv mt_X6_at ⟨by decide, by decide⟩ mok_X6_at ⟨by decide, by decide⟩ ⟨q1785, ln_342, Or.inl ⟨q1784, Or.inl q1786⟩⟩) (trivial)) (Or.inl (by decide))) (ihN rfl) rfl ?_
  refine bcall (pc' := 21) rfl dX0_widthOf_18 rfl (trivial) (lcv (n := 1) rfl (pvc (lfv mt_X0_formOf ⟨by decide, by decide⟩ mok_X0_formOf ⟨by decide, by decide⟩ ⟨q2422, ln_467, Or.inl ⟨q2420, Or.inl qs42⟩⟩) (trivial)) (Or.inl (by decide))) (ihN rfl) rfl ?_
  refine bplain (pc' := 22) rfl dX0_widthOf_21 rfl (ihN rfl) rfl ?_
  refine bplain (pc' := 23) rfl dX0_widthOf_22 rfl (ihN rfl) rfl ?_
  refine bplain (pc' := 24) rfl dX0_widthOf_23 rfl (ihN rfl) rfl ?_
  refine bcall (pc' := 27) rfl dX0_widthOf_24 rfl (trivial) (lcv (n := 1) rfl (pvc (lfv mt_X6_at ⟨by decide, by decide⟩ mok_X6_at ⟨by decide, by decide⟩ ⟨q1785, ln_342, Or.inl ⟨q1784, Or.inl q1786⟩⟩) (trivial)) (Or.inl (by decide))) (ihN rfl) rfl ?_
  refine bcall (pc' := 30) rfl dX0_widthOf_27 rfl (trivial) (lcv (n := 1) rfl (pvc (lfv mt_X0_formOf ⟨by decide, by decide⟩ mok_X0_formOf ⟨by decide, by decide⟩ ⟨q2422, ln_467, Or.inl ⟨q2420, Or.inl qs42⟩⟩) (trivial)) (Or.inl (by decide))) (ihN rfl) rfl ?_
  refine bcall (pc' := 33) rfl dX0_widthOf_30 rfl (trivial) (lcs (l := q1518) mt_J8_max ⟨by decide, by decide⟩ mok_J8_max rfl ln_252 (Or.inl q2424)) (ihN rfl) rfl ?_
  refine bplain (pc' := 34) rfl dX0_widthOf_33 rfl (ihN rfl) rfl ?_
  refine bplain (pc' := 35) rfl dX0_widthOf_34 rfl (ihN rfl) rfl ?_
  refine bplain (pc' := 36) rfl dX0_widthOf_35 rfl (ihN rfl) rfl ?_
  refine bcall (pc' := 39) rfl dX0_widthOf_36 rfl (trivial) (lcv (n := 1) rfl (pvc (lfv mt_X6_looks ⟨by decide, by decide⟩ mok_X6_looks ⟨by decide, by decide⟩ ⟨q2015, ln_222, Or.inl ⟨q2014, Or.inl q2016⟩⟩) (trivial)) (Or.inl (by decide))) (ihN rfl) rfl ?_
  refine bjmp (tg := 58) (pc' := 42) rfl (by decide) (by decide) rfl dX0_widthOf_39 rfl (ihN rfl) rfl ?_
  refine bplain (pc' := 43) rfl dX0_widthOf_42 rfl (ihN rfl) rfl ?_
  refine bplain (pc' := 44) rfl dX0_widthOf_43 rfl (ihN rfl) rfl ?_
  refine bplain (pc' := 45) rfl dX0_widthOf_44 rfl (ihN rfl) rfl ?_
  refine bplain (pc' := 46) rfl dX0_widthOf_45 rfl (ihN rfl) rfl ?_
  refine bcall (pc' := 49) rfl dX0_widthOf_46 rfl (trivial) (lcv (n := 1) rfl (pvc (lfv mt_X6_at ⟨by decide, by decide⟩ mok_X6_at ⟨by decide, by decide⟩ ⟨q1785, ln_342, Or.inl ⟨q1784, Or.inl q1786⟩⟩) (trivial)) (Or.inl (by decide))) (ihN rfl) rfl ?_
  refine bcall (pc' := 52) rfl dX0_widthOf_49 rfl (trivial) (lcv (n := 1) rfl (pvc (lfv mt_X0_formOf ⟨by decide, by decide⟩ mok_X0_formOf ⟨by decide, by decide⟩ ⟨q2422, ln_467, Or.inl ⟨q2420, Or.inl qs42⟩⟩) (trivial)) (Or.inl (by decide))) (ihN rfl) rfl ?_
  refine bcall (pc' := 55) rfl dX0_widthOf_52 rfl (trivial) (lcs (l := q1518) mt_J8_max ⟨by decide, by decide⟩ mok_J8_max rfl ln_252 (Or.inl q2424)) (ihN rfl) rfl ?_
  refine bjmp (tg := 59) (pc' := 58) rfl (by decide) (by decide) rfl dX0_widthOf_55 rfl (ihN rfl) rfl ?_
  exact trivial
theorem bf_X0_widthOf_58 : BOKt mt tX0_widthOf 302 58 b_X0_widthOf_58 := by
  refine bplain (pc' := 59) rfl dX0_widthOf_58 rfl (ihN rfl) rfl ?_
  exact bnop0 rfl (by decide)
theorem bf_X0_widthOf_59 : BOKt mt tX0_widthOf 302 59 b_X0_widthOf_59 := by
  refine bnop1 ?_
  refine bret (pc' := 60) rfl dX0_widthOf_59 rfl (Or.inl ⟨rfl, rfl⟩) (ihN rfl) rfl ?_
  exact trivial
theorem tf_X0_widthOf : ∀ x ∈ tb_X0_widthOf, BOK mt 302 x.1 x.2 := tb_c mt_X0_widthOf bf_X0_widthOf_0 (tb_c mt_X0_widthOf bf_X0_widthOf_12 (tb_c mt_X0_widthOf bf_X0_widthOf_58 (tb_c mt_X0_widthOf bf_X0_widthOf_59 (tb_n))))
theorem bf_X1_lambda_all_0_0 : BOKt mt tX1_lambda_all_0 303 0 b_X1_lambda_all_0_0 := by
  refine bplain (pc' := 1) rfl dX1_lambda_all_0_0 rfl (ihN rfl) rfl ?_
  refine bplain (pc' := 2) rfl dX1_lambda_all_0_1 rfl (ihN rfl) rfl ?_
  refine bplain (pc' := 3) rfl dX1_lambda_all_0_2 rfl (ihN rfl) rfl ?_
  refine bret (pc' := 4) rfl dX1_lambda_all_0_3 rfl (Or.inl ⟨rfl, rfl⟩) (ihN rfl) rfl ?_
  exact trivial
theorem tf_X1_lambda_all_0 : ∀ x ∈ tb_X1_lambda_all_0, BOK mt 303 x.1 x.2 := tb_c mt_X1_lambda_all_0 bf_X1_lambda_all_0_0 (tb_n)
theorem bf_X1_lambda_all_3_0 : BOKt mt tX1_lambda_all_3 304 0 b_X1_lambda_all_3_0 := by
  refine bplain (pc' := 1) rfl dX1_lambda_all_3_0 rfl (ihN rfl) rfl ?_
  refine bplain (pc' := 2) rfl dX1_lambda_all_3_1 rfl (ihN rfl) rfl ?_
  refine bplain (pc' := 3) rfl dX1_lambda_all_3_2 rfl (ihN rfl) rfl ?_
  refine bret (pc' := 4) rfl dX1_lambda_all_3_3 rfl (Or.inl ⟨rfl, rfl⟩) (ihN rfl) rfl ?_
  exact trivial
theorem tf_X1_lambda_all_3 : ∀ x ∈ tb_X1_lambda_all_3, BOK mt 304 x.1 x.2 := tb_c mt_X1_lambda_all_3 bf_X1_lambda_all_3_0 (tb_n)
theorem bf_X1_lambda_all_6_0 : BOKt mt tX1_lambda_all_6 305 0 b_X1_lambda_all_6_0 := by
  refine bplain (pc' := 1) rfl dX1_lambda_all_6_0 rfl (ihN rfl) rfl ?_
  refine bplain (pc' := 2) rfl dX1_lambda_all_6_1 rfl (ihN rfl) rfl ?_
  refine bplain (pc' := 3) rfl dX1_lambda_all_6_2 rfl (ihN rfl) rfl ?_
  refine bret (pc' := 4) rfl dX1_lambda_all_6_3 rfl (Or.inl ⟨rfl, rfl⟩) (ihN rfl) rfl ?_
  exact trivial
theorem tf_X1_lambda_all_6 : ∀ x ∈ tb_X1_lambda_all_6, BOK mt 305 x.1 x.2 := tb_c mt_X1_lambda_all_6 bf_X1_lambda_all_6_0 (tb_n)
theorem bf_X1_rest_0 : BOKt mt tX1_rest 306 0 b_X1_rest_0 := by
  refine bplain (pc' := 1) rfl dX1_rest_0 rfl (ihN rfl) rfl ?_
  refine bjmp (tg := 8) (pc' := 4) rfl (by decide) (by decide) rfl dX1_rest_1 rfl (ihN rfl) rfl ?_
  refine bplain (pc' := 5) rfl dX1_rest_4 rfl (ihN rfl) rfl ?_
  refine bjmp (tg := 11) (pc' := 8) rfl (by decide) (by decide) rfl dX1_rest_5 rfl (ihN rfl) rfl ?_
  exact trivial
theorem bf_X1_rest_8 : BOKt mt tX1_rest 306 8 b_X1_rest_8 := by
  refine bplain (pc' := 9) rfl dX1_rest_8 rfl (ihN rfl) rfl ?_
  refine bplain (pc' := 10) rfl dX1_rest_9 rfl (ihN rfl) rfl ?_
  refine bplain (pc' := 11) rfl dX1_rest_10 rfl (ihN rfl) rfl ?_
  exact bnop0 rfl (by decide)
theorem bf_X1_rest_11 : BOKt mt tX1_rest 306 11 b_X1_rest_11 := by
  refine bnop1 ?_
  refine bret (pc' := 12) rfl dX1_rest_11 rfl (Or.inl ⟨rfl, rfl⟩) (ihN rfl) rfl ?_
  exact trivial
theorem tf_X1_rest : ∀ x ∈ tb_X1_rest, BOK mt 306 x.1 x.2 := tb_c mt_X1_rest bf_X1_rest_0 (tb_c mt_X1_rest bf_X1_rest_8 (tb_c mt_X1_rest bf_X1_rest_11 (tb_n)))
theorem bf_X1_lambda_all_9_0 : BOKt mt tX1_lambda_all_9 307 0 b_X1_lambda_all_9_0 := by
  refine bplain (pc' := 1) rfl dX1_lambda_all_9_0 rfl (ihN rfl) rfl ?_
  refine bplain (pc' := 2) rfl dX1_lambda_all_9_1 rfl (ihN rfl) rfl ?_
  refine bjmp (tg := 9) (pc' := 5) rfl (by decide) (by decide) rfl dX1_lambda_all_9_2 rfl (ihN rfl) rfl ?_
  refine bplain (pc' := 6) rfl dX1_lambda_all_9_5 rfl (ihN rfl) rfl ?_
  refine bjmp (tg := 10) (pc' := 9) rfl (by decide) (by decide) rfl dX1_lambda_all_9_6 rfl (ihN rfl) rfl ?_
  exact trivial
theorem bf_X1_lambda_all_9_9 : BOKt mt tX1_lambda_all_9 307 9 b_X1_lambda_all_9_9 := by
  refine bplain (pc' := 10) rfl dX1_lambda_all_9_9 rfl (ihN rfl) rfl ?_
  exact bnop0 rfl (by decide)
theorem bf_X1_lambda_all_9_10 : BOKt mt tX1_lambda_all_9 307 10 b_X1_lambda_all_9_10 := by
  refine bnop1 ?_
  refine bret (pc' := 11) rfl dX1_lambda_all_9_10 rfl (Or.inl ⟨rfl, rfl⟩) (ihN rfl) rfl ?_
  exact trivial
theorem tf_X1_lambda_all_9 : ∀ x ∈ tb_X1_lambda_all_9, BOK mt 307 x.1 x.2 := tb_c mt_X1_lambda_all_9 bf_X1_lambda_all_9_0 (tb_c mt_X1_lambda_all_9 bf_X1_lambda_all_9_9 (tb_c mt_X1_lambda_all_9 bf_X1_lambda_all_9_10 (tb_n)))
theorem bf_X1_lambda_all_12_0 : BOKt mt tX1_lambda_all_12 308 0 b_X1_lambda_all_12_0 := by
  refine bplain (pc' := 1) rfl dX1_lambda_all_12_0 rfl (ihN rfl) rfl ?_
  refine bplain (pc' := 2) rfl dX1_lambda_all_12_1 rfl (ihN rfl) rfl ?_
  refine bjmp (tg := 9) (pc' := 5) rfl (by decide) (by decide) rfl dX1_lambda_all_12_2 rfl (ihN rfl) rfl ?_
  refine bplain (pc' := 6) rfl dX1_lambda_all_12_5 rfl (ihN rfl) rfl ?_
  refine bjmp (tg := 10) (pc' := 9) rfl (by decide) (by decide) rfl dX1_lambda_all_12_6 rfl (ihN rfl) rfl ?_
  exact trivial
theorem bf_X1_lambda_all_12_9 : BOKt mt tX1_lambda_all_12 308 9 b_X1_lambda_all_12_9 := by
  refine bplain (pc' := 10) rfl dX1_lambda_all_12_9 rfl (ihN rfl) rfl ?_
  exact bnop0 rfl (by decide)
theorem bf_X1_lambda_all_12_10 : BOKt mt tX1_lambda_all_12 308 10 b_X1_lambda_all_12_10 := by
  refine bnop1 ?_
  refine bret (pc' := 11) rfl dX1_lambda_all_12_10 rfl (Or.inl ⟨rfl, rfl⟩) (ihN rfl) rfl ?_
  exact trivial
theorem tf_X1_lambda_all_12 : ∀ x ∈ tb_X1_lambda_all_12, BOK mt 308 x.1 x.2 := tb_c mt_X1_lambda_all_12 bf_X1_lambda_all_12_0 (tb_c mt_X1_lambda_all_12 bf_X1_lambda_all_12_9 (tb_c mt_X1_lambda_all_12 bf_X1_lambda_all_12_10 (tb_n)))
theorem bf_X1_lambda_all_15_0 : BOKt mt tX1_lambda_all_15 309 0 b_X1_lambda_all_15_0 := by
  refine bplain (pc' := 1) rfl dX1_lambda_all_15_0 rfl (ihN rfl) rfl ?_
  refine bplain (pc' := 2) rfl dX1_lambda_all_15_1 rfl (ihN rfl) rfl ?_
  refine bplain (pc' := 3) rfl dX1_lambda_all_15_2 rfl (ihN rfl) rfl ?_
  refine bret (pc' := 4) rfl dX1_lambda_all_15_3 rfl (Or.inl ⟨rfl, rfl⟩) (ihN rfl) rfl ?_
  exact trivial
theorem tf_X1_lambda_all_15 : ∀ x ∈ tb_X1_lambda_all_15, BOK mt 309 x.1 x.2 := tb_c mt_X1_lambda_all_15 bf_X1_lambda_all_15_0 (tb_n)
theorem bf_X1_lambda_all_16_0 : BOKt mt tX1_lambda_all_16 310 0 b_X1_lambda_all_16_0 := by
  refine bplain (pc' := 1) rfl dX1_lambda_all_16_0 rfl (ihN rfl) rfl ?_
  refine bplain (pc' := 2) rfl dX1_lambda_all_16_1 rfl (ihN rfl) rfl ?_
  refine bplain (pc' := 3) rfl dX1_lambda_all_16_2 rfl (ihN rfl) rfl ?_
  refine bret (pc' := 4) rfl dX1_lambda_all_16_3 rfl (Or.inl ⟨rfl, rfl⟩) (ihN rfl) rfl ?_
  exact trivial
theorem tf_X1_lambda_all_16 : ∀ x ∈ tb_X1_lambda_all_16, BOK mt 310 x.1 x.2 := tb_c mt_X1_lambda_all_16 bf_X1_lambda_all_16_0 (tb_n)
theorem bf_X1_lambda_all_17_0 : BOKt mt tX1_lambda_all_17 311 0 b_X1_lambda_all_17_0 := by
  refine bplain (pc' := 1) rfl dX1_lambda_all_17_0 rfl (ihN rfl) rfl ?_
  refine bplain (pc' := 2) rfl dX1_lambda_all_17_1 rfl (ihN rfl) rfl ?_
  refine bplain (pc' := 3) rfl dX1_lambda_all_17_2 rfl (ihN rfl) rfl ?_
  refine bret (pc' := 4) rfl dX1_lambda_all_17_3 rfl (Or.inl ⟨rfl, rfl⟩) (ihN rfl) rfl ?_
  exact trivial
theorem tf_X1_lambda_all_17 : ∀ x ∈ tb_X1_lambda_all_17, BOK mt 311 x.1 x.2 := tb_c mt_X1_lambda_all_17 bf_X1_lambda_all_17_0 (tb_n)
theorem bf_X1_lambda_all_18_0 : BOKt mt tX1_lambda_all_18 312 0 b_X1_lambda_all_18_0 := by
  refine bplain (pc' := 1) rfl dX1_lambda_all_18_0 rfl (ihN rfl) rfl ?_
  refine bret (pc' := 2) rfl dX1_lambda_all_18_1 rfl (Or.inl ⟨rfl, rfl⟩) (ihN rfl) rfl ?_
  exact trivial
theorem tf_X1_lambda_all_18 : ∀ x ∈ tb_X1_lambda_all_18, BOK mt 312 x.1 x.2 := tb_c mt_X1_lambda_all_18 bf_X1_lambda_all_18_0 (tb_n)
theorem bf_X1_lambda_all_21_0 : BOKt mt tX1_lambda_all_21 313 0 b_X1_lambda_all_21_0 := by
  refine bplain (pc' := 1) rfl dX1_lambda_all_21_0 rfl (ihN rfl) rfl ?_
  refine bret (pc' := 2) rfl dX1_lambda_all_21_1 rfl (Or.inl ⟨rfl, rfl⟩) (ihN rfl) rfl ?_
  exact trivial
theorem tf_X1_lambda_all_21 : ∀ x ∈ tb_X1_lambda_all_21, BOK mt 313 x.1 x.2 := tb_c mt_X1_lambda_all_21 bf_X1_lambda_all_21_0 (tb_n)
theorem bf_J8_addExact_0 : BOKt mt tJ8_addExact 314 0 b_J8_addExact_0 := by
  refine bplain (pc' := 1) rfl dJ8_addExact_0 rfl (ihN rfl) rfl ?_
  refine bplain (pc' := 2) rfl dJ8_addExact_1 rfl (ihN rfl) rfl ?_
  refine bplain (pc' := 3) rfl dJ8_addExact_2 rfl (ihN rfl) rfl ?_
  refine bplain (pc' := 4) rfl dJ8_addExact_3 rfl (ihN rfl) rfl ?_
  refine bplain (pc' := 5) rfl dJ8_addExact_4 rfl (ihN rfl) rfl ?_
  refine bplain (pc' := 6) rfl dJ8_addExact_5 rfl (ihN rfl) rfl ?_
  refine bplain (pc' := 7) rfl dJ8_addExact_6 rfl (ihN rfl) rfl ?_
  refine bplain (pc' := 8) rfl dJ8_addExact_7 rfl (ihN rfl) rfl ?_
  refine bplain (pc' := 9) rfl dJ8_addExact_8 rfl (ihN rfl) rfl ?_
  refine bplain (pc' := 10) rfl dJ8_addExact_9 rfl (ihN rfl) rfl ?_
  refine bplain (pc' := 11) rfl dJ8_addExact_10 rfl (ihN rfl) rfl ?_
  refine bjmp (tg := 24) (pc' := 14) rfl (by decide) (by decide) rfl dJ8_addExact_11 rfl (ihN rfl) rfl ?_
  refine bthr (pc' := 17) rfl dJ8_addExact_14 rfl (trivial) (⟨⟨rfl, rfl, rfl⟩, rfl, rfl, ⟨111, "integer overflow", 12, List.mem_of_getElem? (i := 14) rfl, dJ8_addExact_18⟩, q933, q155, dJ8_addExact_17, dJ8_addExact_20, dJ8_addExact_23⟩) (ihN rfl) rfl ?_
  refine bplain (pc' := 18) rfl dJ8_addExact_17 rfl (ihN rfl) rfl ?_
  refine bobj (pc' := 20) rfl dJ8_addExact_18 rfl (lkls (n := 14) (by decide) rfl) (ihN rfl) rfl ?_
  refine bcall (pc' := 23) rfl dJ8_addExact_20 rfl (trivial) (trivial) (ihN rfl) rfl ?_
  refine bplain (pc' := 24) rfl dJ8_addExact_23 rfl (ihN rfl) rfl ?_
  exact trivial
theorem bf_J8_addExact_24 : BOKt mt tJ8_addExact 314 24 b_J8_addExact_24 := by
  refine bplain (pc' := 25) rfl dJ8_addExact_24 rfl (ihN rfl) rfl ?_
  refine bret (pc' := 26) rfl dJ8_addExact_25 rfl (Or.inl ⟨rfl, rfl⟩) (ihN rfl) rfl ?_
  exact trivial
theorem tf_J8_addExact : ∀ x ∈ tb_J8_addExact, BOK mt 314 x.1 x.2 := tb_c mt_J8_addExact bf_J8_addExact_0 (tb_c mt_J8_addExact bf_J8_addExact_24 (tb_n))
theorem bf_X1_sum_0 : BOKt mt tX1_sum 315 0 b_X1_sum_0 := by
  refine bplain (pc' := 1) rfl dX1_sum_0 rfl (ihN rfl) rfl ?_
  refine bplain (pc' := 2) rfl dX1_sum_1 rfl (ihN rfl) rfl ?_
  refine bcall (pc' := 5) rfl dX1_sum_2 rfl (trivial) (lcs (l := q931) mt_J8_addExact ⟨by decide, by decide⟩ mok_J8_addExact rfl ln_252 (Or.inl q930)) (ihN rfl) rfl ?_
  refine bret (pc' := 6) rfl dX1_sum_5 rfl (Or.inl ⟨rfl, rfl⟩) (ihN rfl) rfl ?_
  exact trivial
theorem tf_X1_sum : ∀ x ∈ tb_X1_sum, BOK mt 315 x.1 x.2 := tb_c mt_X1_sum bf_X1_sum_0 (tb_n)
theorem bf_J8_multiplyExact_0 : BOKt mt tJ8_multiplyExact 316 0 b_J8_multiplyExact_0 := by
  refine bplain (pc' := 1) rfl dJ8_multiplyExact_0 rfl (ihN rfl) rfl ?_
  refine bplain (pc' := 2) rfl dJ8_multiplyExact_1 rfl (ihN rfl) rfl ?_
  refine bplain (pc' := 3) rfl dJ8_multiplyExact_2 rfl (ihN rfl) rfl ?_
  refine bplain (pc' := 4) rfl dJ8_multiplyExact_3 rfl (ihN rfl) rfl ?_
  refine bplain (pc' := 5) rfl dJ8_multiplyExact_4 rfl (ihN rfl) rfl ?_
  refine bplain (pc' := 6) rfl dJ8_multiplyExact_5 rfl (ihN rfl) rfl ?_
  refine bplain (pc' := 7) rfl dJ8_multiplyExact_6 rfl (ihN rfl) rfl ?_
  refine bplain (pc' := 8) rfl dJ8_multiplyExact_7 rfl (ihN rfl) rfl ?_
  refine bplain (pc' := 9) rfl dJ8_multiplyExact_8 rfl (ihN rfl) rfl ?_
  refine bplain (pc' := 10) rfl dJ8_multiplyExact_9 rfl (ihN rfl) rfl ?_
  refine bplain (pc' := 11) rfl dJ8_multiplyExact_10 rfl (ihN rfl) rfl ?_
  refine bjmp (tg := 24) (pc' := 14) rfl (by decide) (by decide) rfl dJ8_multiplyExact_11 rfl (ihN rfl) rfl ?_
  refine bthr (pc' := 17) rfl dJ8_multiplyExact_14 rfl (trivial) (⟨⟨rfl, rfl, rfl⟩, rfl, rfl, ⟨111, "integer overflow", 12, List.mem_of_getElem? (i := 14) rfl, dJ8_multiplyExact_18⟩, q933, q155, dJ8_multiplyExact_17, dJ8_multiplyExact_20, dJ8_multiplyExact_23⟩) (ihN rfl) rfl ?_
  refine bplain (pc' := 18) rfl dJ8_multiplyExact_17 rfl (ihN rfl) rfl ?_
  refine bobj (pc' := 20) rfl dJ8_multiplyExact_18 rfl (lkls (n := 14) (by decide) rfl) (ihN rfl) rfl ?_
  refine bcall (pc' := 23) rfl dJ8_multiplyExact_20 rfl (trivial) (trivial) (ihN rfl) rfl ?_
  refine bplain (pc' := 24) rfl dJ8_multiplyExact_23 rfl (ihN rfl) rfl ?_
  exact trivial
theorem bf_J8_multiplyExact_24 : BOKt mt tJ8_multiplyExact 316 24 b_J8_multiplyExact_24 := by
  refine bplain (pc' := 25) rfl dJ8_multiplyExact_24 rfl (ihN rfl) rfl ?_
  refine bplain (pc' := 26) rfl dJ8_multiplyExact_25 rfl (ihN rfl) rfl ?_
  refine bret (pc' := 27) rfl dJ8_multiplyExact_26 rfl (Or.inl ⟨rfl, rfl⟩) (ihN rfl) rfl ?_
  exact trivial
theorem tf_J8_multiplyExact : ∀ x ∈ tb_J8_multiplyExact, BOK mt 316 x.1 x.2 := tb_c mt_J8_multiplyExact bf_J8_multiplyExact_0 (tb_c mt_J8_multiplyExact bf_J8_multiplyExact_24 (tb_n))
theorem bf_X1_product_0 : BOKt mt tX1_product 317 0 b_X1_product_0 := by
  refine bplain (pc' := 1) rfl dX1_product_0 rfl (ihN rfl) rfl ?_
  refine bplain (pc' := 2) rfl dX1_product_1 rfl (ihN rfl) rfl ?_
  refine bcall (pc' := 5) rfl dX1_product_2 rfl (trivial) (lcs (l := q1020) mt_J8_multiplyExact ⟨by decide, by decide⟩ mok_J8_multiplyExact rfl ln_252 (Or.inl q1019)) (ihN rfl) rfl ?_
  refine bret (pc' := 6) rfl dX1_product_5 rfl (Or.inl ⟨rfl, rfl⟩) (ihN rfl) rfl ?_
  exact trivial
theorem tf_X1_product : ∀ x ∈ tb_X1_product, BOK mt 317 x.1 x.2 := tb_c mt_X1_product bf_X1_product_0 (tb_n)
theorem bf_X1_lambda_all_1_0 : BOKt mt tX1_lambda_all_1 318 0 b_X1_lambda_all_1_0 := by
  refine bplain (pc' := 1) rfl dX1_lambda_all_1_0 rfl (ihN rfl) rfl ?_
  refine bplain (pc' := 2) rfl dX1_lambda_all_1_1 rfl (ihN rfl) rfl ?_
  refine bplain (pc' := 3) rfl dX1_lambda_all_1_2 rfl (ihN rfl) rfl ?_
  refine bobj (pc' := 5) rfl dX1_lambda_all_1_3 rfl (lkl1 rfl q242) (ihN rfl) rfl ?_
  refine bplain (pc' := 6) rfl dX1_lambda_all_1_5 rfl (ihN rfl) rfl ?_
  refine bret (pc' := 7) rfl dX1_lambda_all_1_6 rfl (rfl) (ihN rfl) rfl ?_
  exact trivial
theorem tf_X1_lambda_all_1 : ∀ x ∈ tb_X1_lambda_all_1, BOK mt 318 x.1 x.2 := tb_c mt_X1_lambda_all_1 bf_X1_lambda_all_1_0 (tb_n)
theorem bf_X1_lambda_all_4_0 : BOKt mt tX1_lambda_all_4 319 0 b_X1_lambda_all_4_0 := by
  refine bplain (pc' := 1) rfl dX1_lambda_all_4_0 rfl (ihN rfl) rfl ?_
  refine bplain (pc' := 2) rfl dX1_lambda_all_4_1 rfl (ihN rfl) rfl ?_
  refine bplain (pc' := 3) rfl dX1_lambda_all_4_2 rfl (ihN rfl) rfl ?_
  refine bobj (pc' := 5) rfl dX1_lambda_all_4_3 rfl (lkl1 rfl q242) (ihN rfl) rfl ?_
  refine bplain (pc' := 6) rfl dX1_lambda_all_4_5 rfl (ihN rfl) rfl ?_
  refine bret (pc' := 7) rfl dX1_lambda_all_4_6 rfl (rfl) (ihN rfl) rfl ?_
  exact trivial
theorem tf_X1_lambda_all_4 : ∀ x ∈ tb_X1_lambda_all_4, BOK mt 319 x.1 x.2 := tb_c mt_X1_lambda_all_4 bf_X1_lambda_all_4_0 (tb_n)
theorem bf_X1_lambda_all_7_0 : BOKt mt tX1_lambda_all_7 320 0 b_X1_lambda_all_7_0 := by
  refine bplain (pc' := 1) rfl dX1_lambda_all_7_0 rfl (ihN rfl) rfl ?_
  refine bplain (pc' := 2) rfl dX1_lambda_all_7_1 rfl (ihN rfl) rfl ?_
  refine bplain (pc' := 3) rfl dX1_lambda_all_7_2 rfl (ihN rfl) rfl ?_
  refine bobj (pc' := 5) rfl dX1_lambda_all_7_3 rfl (lkl1 rfl q242) (ihN rfl) rfl ?_
  refine bplain (pc' := 6) rfl dX1_lambda_all_7_5 rfl (ihN rfl) rfl ?_
  refine bret (pc' := 7) rfl dX1_lambda_all_7_6 rfl (rfl) (ihN rfl) rfl ?_
  exact trivial
theorem tf_X1_lambda_all_7 : ∀ x ∈ tb_X1_lambda_all_7, BOK mt 320 x.1 x.2 := tb_c mt_X1_lambda_all_7 bf_X1_lambda_all_7_0 (tb_n)
theorem bf_X1_restOf_0 : BOKt mt tX1_restOf 321 0 b_X1_restOf_0 := by
  refine bplain (pc' := 1) rfl dX1_restOf_0 rfl (ihN rfl) rfl ?_
  refine bplain (pc' := 2) rfl dX1_restOf_1 rfl (ihN rfl) rfl ?_
  refine bplain (pc' := 3) rfl dX1_restOf_2 rfl (ihN rfl) rfl ?_
  refine bjmp (tg := 10) (pc' := 6) rfl (by decide) (by decide) rfl dX1_restOf_3 rfl (ihN rfl) rfl ?_
  refine bplain (pc' := 7) rfl dX1_restOf_6 rfl (ihN rfl) rfl ?_
  refine bjmp (tg := 13) (pc' := 10) rfl (by decide) (by decide) rfl dX1_restOf_7 rfl (ihN rfl) rfl ?_
  exact trivial
theorem bf_X1_restOf_10 : BOKt mt tX1_restOf 321 10 b_X1_restOf_10 := by
  refine bplain (pc' := 11) rfl dX1_restOf_10 rfl (ihN rfl) rfl ?_
  refine bplain (pc' := 12) rfl dX1_restOf_11 rfl (ihN rfl) rfl ?_
  refine bplain (pc' := 13) rfl dX1_restOf_12 rfl (ihN rfl) rfl ?_
  exact bnop0 rfl (by decide)
theorem bf_X1_restOf_13 : BOKt mt tX1_restOf 321 13 b_X1_restOf_13 := by
  refine bnop1 ?_
  refine bret (pc' := 14) rfl dX1_restOf_13 rfl (rfl) (ihN rfl) rfl ?_
  exact trivial
theorem tf_X1_restOf : ∀ x ∈ tb_X1_restOf, BOK mt 321 x.1 x.2 := tb_c mt_X1_restOf bf_X1_restOf_0 (tb_c mt_X1_restOf bf_X1_restOf_10 (tb_c mt_X1_restOf bf_X1_restOf_13 (tb_n)))
theorem bf_X1_lambda_all_10_0 : BOKt mt tX1_lambda_all_10 322 0 b_X1_lambda_all_10_0 := by
  refine bplain (pc' := 1) rfl dX1_lambda_all_10_0 rfl (ihN rfl) rfl ?_
  refine bplain (pc' := 2) rfl dX1_lambda_all_10_1 rfl (ihN rfl) rfl ?_
  refine bplain (pc' := 3) rfl dX1_lambda_all_10_2 rfl (ihN rfl) rfl ?_
  refine bjmp (tg := 10) (pc' := 6) rfl (by decide) (by decide) rfl dX1_lambda_all_10_3 rfl (ihN rfl) rfl ?_
  refine bplain (pc' := 7) rfl dX1_lambda_all_10_6 rfl (ihN rfl) rfl ?_
  refine bjmp (tg := 11) (pc' := 10) rfl (by decide) (by decide) rfl dX1_lambda_all_10_7 rfl (ihN rfl) rfl ?_
  exact trivial
theorem bf_X1_lambda_all_10_10 : BOKt mt tX1_lambda_all_10 322 10 b_X1_lambda_all_10_10 := by
  refine bplain (pc' := 11) rfl dX1_lambda_all_10_10 rfl (ihN rfl) rfl ?_
  exact bnop0 rfl (by decide)
theorem bf_X1_lambda_all_10_11 : BOKt mt tX1_lambda_all_10 322 11 b_X1_lambda_all_10_11 := by
  refine bnop1 ?_
  refine bret (pc' := 12) rfl dX1_lambda_all_10_11 rfl (rfl) (ihN rfl) rfl ?_
  exact trivial
theorem tf_X1_lambda_all_10 : ∀ x ∈ tb_X1_lambda_all_10, BOK mt 322 x.1 x.2 := tb_c mt_X1_lambda_all_10 bf_X1_lambda_all_10_0 (tb_c mt_X1_lambda_all_10 bf_X1_lambda_all_10_10 (tb_c mt_X1_lambda_all_10 bf_X1_lambda_all_10_11 (tb_n)))
theorem bf_X1_lambda_all_13_0 : BOKt mt tX1_lambda_all_13 323 0 b_X1_lambda_all_13_0 := by
  refine bplain (pc' := 1) rfl dX1_lambda_all_13_0 rfl (ihN rfl) rfl ?_
  refine bplain (pc' := 2) rfl dX1_lambda_all_13_1 rfl (ihN rfl) rfl ?_
  refine bplain (pc' := 3) rfl dX1_lambda_all_13_2 rfl (ihN rfl) rfl ?_
  refine bjmp (tg := 10) (pc' := 6) rfl (by decide) (by decide) rfl dX1_lambda_all_13_3 rfl (ihN rfl) rfl ?_
  refine bplain (pc' := 7) rfl dX1_lambda_all_13_6 rfl (ihN rfl) rfl ?_
  refine bjmp (tg := 11) (pc' := 10) rfl (by decide) (by decide) rfl dX1_lambda_all_13_7 rfl (ihN rfl) rfl ?_
  exact trivial
theorem bf_X1_lambda_all_13_10 : BOKt mt tX1_lambda_all_13 323 10 b_X1_lambda_all_13_10 := by
  refine bplain (pc' := 11) rfl dX1_lambda_all_13_10 rfl (ihN rfl) rfl ?_
  exact bnop0 rfl (by decide)
theorem bf_X1_lambda_all_13_11 : BOKt mt tX1_lambda_all_13 323 11 b_X1_lambda_all_13_11 := by
  refine bnop1 ?_
  refine bret (pc' := 12) rfl dX1_lambda_all_13_11 rfl (rfl) (ihN rfl) rfl ?_
  exact trivial
theorem tf_X1_lambda_all_13 : ∀ x ∈ tb_X1_lambda_all_13, BOK mt 323 x.1 x.2 := tb_c mt_X1_lambda_all_13 bf_X1_lambda_all_13_0 (tb_c mt_X1_lambda_all_13 bf_X1_lambda_all_13_10 (tb_c mt_X1_lambda_all_13 bf_X1_lambda_all_13_11 (tb_n)))
theorem bf_X1_lambda_all_19_0 : BOKt mt tX1_lambda_all_19 324 0 b_X1_lambda_all_19_0 := by
  refine bplain (pc' := 1) rfl dX1_lambda_all_19_0 rfl (ihN rfl) rfl ?_
  refine bret (pc' := 2) rfl dX1_lambda_all_19_1 rfl (rfl) (ihN rfl) rfl ?_
  exact trivial
theorem tf_X1_lambda_all_19 : ∀ x ∈ tb_X1_lambda_all_19, BOK mt 324 x.1 x.2 := tb_c mt_X1_lambda_all_19 bf_X1_lambda_all_19_0 (tb_n)
theorem bf_X1_lambda_all_22_0 : BOKt mt tX1_lambda_all_22 325 0 b_X1_lambda_all_22_0 := by
  refine bplain (pc' := 1) rfl dX1_lambda_all_22_0 rfl (ihN rfl) rfl ?_
  refine bret (pc' := 2) rfl dX1_lambda_all_22_1 rfl (rfl) (ihN rfl) rfl ?_
  exact trivial
theorem tf_X1_lambda_all_22 : ∀ x ∈ tb_X1_lambda_all_22, BOK mt 325 x.1 x.2 := tb_c mt_X1_lambda_all_22 bf_X1_lambda_all_22_0 (tb_n)
theorem bf_X1_lambda_all_2_0 : BOKt mt tX1_lambda_all_2 326 0 b_X1_lambda_all_2_0 := by
  refine bplain (pc' := 1) rfl dX1_lambda_all_2_0 rfl (ihN rfl) rfl ?_
  refine bplain (pc' := 2) rfl dX1_lambda_all_2_1 rfl (ihN rfl) rfl ?_
  refine bplain (pc' := 3) rfl dX1_lambda_all_2_2 rfl (ihN rfl) rfl ?_
  refine bobj (pc' := 6) rfl dX1_lambda_all_2_3 rfl (lkq1 rfl q245) (ihN rfl) rfl ?_
  refine bplain (pc' := 7) rfl dX1_lambda_all_2_6 rfl (ihN rfl) rfl ?_
  refine bret (pc' := 8) rfl dX1_lambda_all_2_7 rfl (rfl) (ihN rfl) rfl ?_
  exact trivial
theorem tf_X1_lambda_all_2 : ∀ x ∈ tb_X1_lambda_all_2, BOK mt 326 x.1 x.2 := tb_c mt_X1_lambda_all_2 bf_X1_lambda_all_2_0 (tb_n)
theorem bf_X1_lambda_all_5_0 : BOKt mt tX1_lambda_all_5 327 0 b_X1_lambda_all_5_0 := by
  refine bplain (pc' := 1) rfl dX1_lambda_all_5_0 rfl (ihN rfl) rfl ?_
  refine bplain (pc' := 2) rfl dX1_lambda_all_5_1 rfl (ihN rfl) rfl ?_
  refine bplain (pc' := 3) rfl dX1_lambda_all_5_2 rfl (ihN rfl) rfl ?_
  refine bobj (pc' := 6) rfl dX1_lambda_all_5_3 rfl (lkq1 rfl q245) (ihN rfl) rfl ?_
  refine bplain (pc' := 7) rfl dX1_lambda_all_5_6 rfl (ihN rfl) rfl ?_
  refine bret (pc' := 8) rfl dX1_lambda_all_5_7 rfl (rfl) (ihN rfl) rfl ?_
  exact trivial
theorem tf_X1_lambda_all_5 : ∀ x ∈ tb_X1_lambda_all_5, BOK mt 327 x.1 x.2 := tb_c mt_X1_lambda_all_5 bf_X1_lambda_all_5_0 (tb_n)
theorem bf_X1_lambda_all_8_0 : BOKt mt tX1_lambda_all_8 328 0 b_X1_lambda_all_8_0 := by
  refine bplain (pc' := 1) rfl dX1_lambda_all_8_0 rfl (ihN rfl) rfl ?_
  refine bplain (pc' := 2) rfl dX1_lambda_all_8_1 rfl (ihN rfl) rfl ?_
  refine bplain (pc' := 3) rfl dX1_lambda_all_8_2 rfl (ihN rfl) rfl ?_
  refine bobj (pc' := 6) rfl dX1_lambda_all_8_3 rfl (lkq1 rfl q245) (ihN rfl) rfl ?_
  refine bplain (pc' := 7) rfl dX1_lambda_all_8_6 rfl (ihN rfl) rfl ?_
  refine bret (pc' := 8) rfl dX1_lambda_all_8_7 rfl (rfl) (ihN rfl) rfl ?_
  exact trivial
theorem tf_X1_lambda_all_8 : ∀ x ∈ tb_X1_lambda_all_8, BOK mt 328 x.1 x.2 := tb_c mt_X1_lambda_all_8 bf_X1_lambda_all_8_0 (tb_n)
theorem bf_X1_restIn_0 : BOKt mt tX1_restIn 329 0 b_X1_restIn_0 := by
  refine bplain (pc' := 1) rfl dX1_restIn_0 rfl (ihN rfl) rfl ?_
  refine bplain (pc' := 2) rfl dX1_restIn_1 rfl (ihN rfl) rfl ?_
  refine bplain (pc' := 3) rfl dX1_restIn_2 rfl (ihN rfl) rfl ?_
  refine bjmp (tg := 10) (pc' := 6) rfl (by decide) (by decide) rfl dX1_restIn_3 rfl (ihN rfl) rfl ?_
  refine bplain (pc' := 7) rfl dX1_restIn_6 rfl (ihN rfl) rfl ?_
  refine bjmp (tg := 13) (pc' := 10) rfl (by decide) (by decide) rfl dX1_restIn_7 rfl (ihN rfl) rfl ?_
  exact trivial
theorem bf_X1_restIn_10 : BOKt mt tX1_restIn 329 10 b_X1_restIn_10 := by
  refine bplain (pc' := 11) rfl dX1_restIn_10 rfl (ihN rfl) rfl ?_
  refine bplain (pc' := 12) rfl dX1_restIn_11 rfl (ihN rfl) rfl ?_
  refine bplain (pc' := 13) rfl dX1_restIn_12 rfl (ihN rfl) rfl ?_
  exact bnop0 rfl (by decide)
theorem bf_X1_restIn_13 : BOKt mt tX1_restIn 329 13 b_X1_restIn_13 := by
  refine bnop1 ?_
  refine bret (pc' := 14) rfl dX1_restIn_13 rfl (rfl) (ihN rfl) rfl ?_
  exact trivial
theorem tf_X1_restIn : ∀ x ∈ tb_X1_restIn, BOK mt 329 x.1 x.2 := tb_c mt_X1_restIn bf_X1_restIn_0 (tb_c mt_X1_restIn bf_X1_restIn_10 (tb_c mt_X1_restIn bf_X1_restIn_13 (tb_n)))
theorem bf_X1_lambda_all_11_0 : BOKt mt tX1_lambda_all_11 330 0 b_X1_lambda_all_11_0 := by
  refine bplain (pc' := 1) rfl dX1_lambda_all_11_0 rfl (ihN rfl) rfl ?_
  refine bplain (pc' := 2) rfl dX1_lambda_all_11_1 rfl (ihN rfl) rfl ?_
  refine bplain (pc' := 3) rfl dX1_lambda_all_11_2 rfl (ihN rfl) rfl ?_
  refine bjmp (tg := 10) (pc' := 6) rfl (by decide) (by decide) rfl dX1_lambda_all_11_3 rfl (ihN rfl) rfl ?_
  refine bplain (pc' := 7) rfl dX1_lambda_all_11_6 rfl (ihN rfl) rfl ?_
  refine bjmp (tg := 11) (pc' := 10) rfl (by decide) (by decide) rfl dX1_lambda_all_11_7 rfl (ihN rfl) rfl ?_
  exact trivial
theorem bf_X1_lambda_all_11_10 : BOKt mt tX1_lambda_all_11 330 10 b_X1_lambda_all_11_10 := by
  refine bplain (pc' := 11) rfl dX1_lambda_all_11_10 rfl (ihN rfl) rfl ?_
  exact bnop0 rfl (by decide)
theorem bf_X1_lambda_all_11_11 : BOKt mt tX1_lambda_all_11 330 11 b_X1_lambda_all_11_11 := by
  refine bnop1 ?_
  refine bret (pc' := 12) rfl dX1_lambda_all_11_11 rfl (rfl) (ihN rfl) rfl ?_
  exact trivial
theorem tf_X1_lambda_all_11 : ∀ x ∈ tb_X1_lambda_all_11, BOK mt 330 x.1 x.2 := tb_c mt_X1_lambda_all_11 bf_X1_lambda_all_11_0 (tb_c mt_X1_lambda_all_11 bf_X1_lambda_all_11_10 (tb_c mt_X1_lambda_all_11 bf_X1_lambda_all_11_11 (tb_n)))
theorem bf_X1_lambda_all_14_0 : BOKt mt tX1_lambda_all_14 331 0 b_X1_lambda_all_14_0 := by
  refine bplain (pc' := 1) rfl dX1_lambda_all_14_0 rfl (ihN rfl) rfl ?_
  refine bplain (pc' := 2) rfl dX1_lambda_all_14_1 rfl (ihN rfl) rfl ?_
  refine bplain (pc' := 3) rfl dX1_lambda_all_14_2 rfl (ihN rfl) rfl ?_
  refine bjmp (tg := 10) (pc' := 6) rfl (by decide) (by decide) rfl dX1_lambda_all_14_3 rfl (ihN rfl) rfl ?_
  refine bplain (pc' := 7) rfl dX1_lambda_all_14_6 rfl (ihN rfl) rfl ?_
  refine bjmp (tg := 11) (pc' := 10) rfl (by decide) (by decide) rfl dX1_lambda_all_14_7 rfl (ihN rfl) rfl ?_
  exact trivial
theorem bf_X1_lambda_all_14_10 : BOKt mt tX1_lambda_all_14 331 10 b_X1_lambda_all_14_10 := by
  refine bplain (pc' := 11) rfl dX1_lambda_all_14_10 rfl (ihN rfl) rfl ?_
  exact bnop0 rfl (by decide)
theorem bf_X1_lambda_all_14_11 : BOKt mt tX1_lambda_all_14 331 11 b_X1_lambda_all_14_11 := by
  refine bnop1 ?_
  refine bret (pc' := 12) rfl dX1_lambda_all_14_11 rfl (rfl) (ihN rfl) rfl ?_
  exact trivial
theorem tf_X1_lambda_all_14 : ∀ x ∈ tb_X1_lambda_all_14, BOK mt 331 x.1 x.2 := tb_c mt_X1_lambda_all_14 bf_X1_lambda_all_14_0 (tb_c mt_X1_lambda_all_14 bf_X1_lambda_all_14_10 (tb_c mt_X1_lambda_all_14 bf_X1_lambda_all_14_11 (tb_n)))
theorem bf_X1_lambda_all_20_0 : BOKt mt tX1_lambda_all_20 332 0 b_X1_lambda_all_20_0 := by
  refine bplain (pc' := 1) rfl dX1_lambda_all_20_0 rfl (ihN rfl) rfl ?_
  refine bret (pc' := 2) rfl dX1_lambda_all_20_1 rfl (rfl) (ihN rfl) rfl ?_
  exact trivial
theorem tf_X1_lambda_all_20 : ∀ x ∈ tb_X1_lambda_all_20, BOK mt 332 x.1 x.2 := tb_c mt_X1_lambda_all_20 bf_X1_lambda_all_20_0 (tb_n)
theorem bf_X1_lambda_all_23_0 : BOKt mt tX1_lambda_all_23 333 0 b_X1_lambda_all_23_0 := by
  refine bplain (pc' := 1) rfl dX1_lambda_all_23_0 rfl (ihN rfl) rfl ?_
  refine bret (pc' := 2) rfl dX1_lambda_all_23_1 rfl (rfl) (ihN rfl) rfl ?_
  exact trivial
theorem tf_X1_lambda_all_23 : ∀ x ∈ tb_X1_lambda_all_23, BOK mt 333 x.1 x.2 := tb_c mt_X1_lambda_all_23 bf_X1_lambda_all_23_0 (tb_n)
theorem bf_X0_done_0 : BOKt mt tX0_done 334 0 b_X0_done_0 := by
  refine bplain (pc' := 1) rfl dX0_done_0 rfl (ihN rfl) rfl ?_
  exact bsw rfl dX0_done_1 (swl (by decide +kernel) (by decide) (by decide) (by decide +kernel) (by decide +kernel)) (by decide +kernel) (ihN rfl)
theorem bf_X0_done_28 : BOKt mt tX0_done 334 28 b_X0_done_28 := by
  refine bplain (pc' := 29) rfl dX0_done_28 rfl (ihN rfl) rfl ?_
  refine bthr (pc' := 32) rfl dX0_done_29 rfl (lkf1 (host := "StrideTurns") (by decide) q258 lf_7) (trivial) (ihN rfl) rfl ?_
  refine bplain (pc' := 33) rfl dX0_done_32 rfl (ihN rfl) rfl ?_
  refine bplain (pc' := 34) rfl dX0_done_33 rfl (ihN rfl) rfl ?_
  refine bplain (pc' := 36) rfl dX0_done_34 rfl (ihN rfl) rfl ?_
  refine bplain (pc' := 37) rfl dX0_done_36 rfl (ihN rfl) rfl ?_
  refine bcall (pc' := 42) rfl dX0_done_37 rfl (trivial) (lcl (n := 2) (j := 3) rfl q2429 ln_252 rfl (plc (lfl (q := 1) rfl ⟨by decide, by decide⟩ rfl mt_X1_lambda_all_0 ⟨by decide, by decide⟩ mok_X1_lambda_all_0 ll_494 ll_495) (plc (lfl (q := 4) rfl ⟨by decide, by decide⟩ rfl mt_X1_lambda_all_3 ⟨by decide, by decide⟩ mok_X1_lambda_all_3 ll_492 ll_493) (plc (lfl (q := 7) rfl ⟨by decide, by decide⟩ rfl mt_X1_lambda_all_6 ⟨by decide, by decide⟩ mok_X1_lambda_all_6 ll_490 ll_491) (plc (lfl (q := 10) rfl ⟨by decide, by decide⟩ rfl mt_X1_rest ⟨by decide, by decide⟩ mok_X1_rest ll_488 ll_489) (plc (lfl (q := 13) rfl ⟨by decide, by decide⟩ rfl mt_X1_lambda_all_9 ⟨by decide, by decide⟩ mok_X1_lambda_all_9 ll_486 ll_487) (plc (lfl (q := 16) rfl ⟨by decide, by decide⟩ rfl mt_X1_lambda_all_12 ⟨by decide, by decide⟩ mok_X1_lambda_all_12 ll_484 ll_485) (plc (lfl (q := 19) rfl ⟨by decide, by decide⟩ rfl mt_X1_lambda_all_15 ⟨by decide, by decide⟩ mok_X1_lambda_all_15 ll_482 ll_483) (plc (lfl (q := 20) rfl ⟨by decide, by decide⟩ rfl mt_X1_lambda_all_16 ⟨by decide, by decide⟩ mok_X1_lambda_all_16 ll_480 ll_481) (plc (lfl (q := 21) rfl ⟨by decide, by decide⟩ rfl mt_X1_lambda_all_17 ⟨by decide, by decide⟩ mok_X1_lambda_all_17 ll_478 ll_479) (plc (lfl (q := 22) rfl ⟨by decide, by decide⟩ rfl mt_X1_lambda_all_18 ⟨by decide, by decide⟩ mok_X1_lambda_all_18 ll_476 ll_477) (plc (lfl (q := 25) rfl ⟨by decide, by decide⟩ rfl mt_X1_lambda_all_21 ⟨by decide, by decide⟩ mok_X1_lambda_all_21 ll_474 ll_475) (plc (lfl (q := 28) rfl ⟨by decide, by decide⟩ rfl mt_X1_sum ⟨by decide, by decide⟩ mok_X1_sum ll_472 ll_473) (plc (lfl (q := 29) rfl ⟨by decide, by decide⟩ rfl mt_X1_product ⟨by decide, by decide⟩ mok_X1_product ll_470 ll_471) (trivial))))))))))))))) (ihN rfl) rfl ?_
  refine bplain (pc' := 43) rfl dX0_done_42 rfl (ihN rfl) rfl ?_
  refine bret (pc' := 44) rfl dX0_done_43 rfl (rfl) (ihN rfl) rfl ?_
  exact trivial
theorem bf_X0_done_44 : BOKt mt tX0_done 334 44 b_X0_done_44 := by
  refine bplain (pc' := 45) rfl dX0_done_44 rfl (ihN rfl) rfl ?_
  refine bthr (pc' := 48) rfl dX0_done_45 rfl (lkf1 (host := "StrideTurns") (by decide) q260 lf_9) (trivial) (ihN rfl) rfl ?_
  refine bplain (pc' := 49) rfl dX0_done_48 rfl (ihN rfl) rfl ?_
  refine bplain (pc' := 50) rfl dX0_done_49 rfl (ihN rfl) rfl ?_
  refine bplain (pc' := 52) rfl dX0_done_50 rfl (ihN rfl) rfl ?_
  refine bplain (pc' := 53) rfl dX0_done_52 rfl (ihN rfl) rfl ?_
  refine bcall (pc' := 58) rfl dX0_done_53 rfl (trivial) (lcl (n := 2) (j := 4) rfl q2433 ln_496 rfl (plc (lfl (q := 2) rfl ⟨by decide, by decide⟩ rfl mt_X1_lambda_all_1 ⟨by decide, by decide⟩ mok_X1_lambda_all_1 ll_511 ll_512) (plc (lfl (q := 5) rfl ⟨by decide, by decide⟩ rfl mt_X1_lambda_all_4 ⟨by decide, by decide⟩ mok_X1_lambda_all_4 ll_509 ll_510) (plc (lfl (q := 8) rfl ⟨by decide, by decide⟩ rfl mt_X1_lambda_all_7 ⟨by decide, by decide⟩ mok_X1_lambda_all_7 ll_507 ll_508) (plc (lfl (q := 11) rfl ⟨by decide, by decide⟩ rfl mt_X1_restOf ⟨by decide, by decide⟩ mok_X1_restOf ll_505 ll_506) (plc (lfl (q := 14) rfl ⟨by decide, by decide⟩ rfl mt_X1_lambda_all_10 ⟨by decide, by decide⟩ mok_X1_lambda_all_10 ll_503 ll_504) (plc (lfl (q := 17) rfl ⟨by decide, by decide⟩ rfl mt_X1_lambda_all_13 ⟨by decide, by decide⟩ mok_X1_lambda_all_13 ll_501 ll_502) (plc (lfl (q := 23) rfl ⟨by decide, by decide⟩ rfl mt_X1_lambda_all_19 ⟨by decide, by decide⟩ mok_X1_lambda_all_19 ll_499 ll_500) (plc (lfl (q := 26) rfl ⟨by decide, by decide⟩ rfl mt_X1_lambda_all_22 ⟨by decide, by decide⟩ mok_X1_lambda_all_22 ll_497 ll_498) (trivial)))))))))) (ihN rfl) rfl ?_
  refine bplain (pc' := 59) rfl dX0_done_58 rfl (ihN rfl) rfl ?_
  refine bplain (pc' := 60) rfl dX0_done_59 rfl (ihN rfl) rfl ?_
  refine bplain (pc' := 61) rfl dX0_done_60 rfl (ihN rfl) rfl ?_
  refine bret (pc' := 62) rfl dX0_done_61 rfl (rfl) (ihN rfl) rfl ?_
  exact trivial
theorem bf_X0_done_62 : BOKt mt tX0_done 334 62 b_X0_done_62 := by
  refine bplain (pc' := 63) rfl dX0_done_62 rfl (ihN rfl) rfl ?_
  refine bthr (pc' := 66) rfl dX0_done_63 rfl (lkf1 (host := "StrideTurns") (by decide) q262 lf_11) (trivial) (ihN rfl) rfl ?_
  refine bplain (pc' := 67) rfl dX0_done_66 rfl (ihN rfl) rfl ?_
  refine bplain (pc' := 69) rfl dX0_done_67 rfl (ihN rfl) rfl ?_
  refine bcall (pc' := 74) rfl dX0_done_69 rfl (trivial) (lcl (n := 2) (j := 5) rfl q2437 ln_513 rfl (plc (lfl (q := 3) rfl ⟨by decide, by decide⟩ rfl mt_X1_lambda_all_2 ⟨by decide, by decide⟩ mok_X1_lambda_all_2 ll_528 ll_529) (plc (lfl (q := 6) rfl ⟨by decide, by decide⟩ rfl mt_X1_lambda_all_5 ⟨by decide, by decide⟩ mok_X1_lambda_all_5 ll_526 ll_527) (plc (lfl (q := 9) rfl ⟨by decide, by decide⟩ rfl mt_X1_lambda_all_8 ⟨by decide, by decide⟩ mok_X1_lambda_all_8 ll_524 ll_525) (plc (lfl (q := 12) rfl ⟨by decide, by decide⟩ rfl mt_X1_restIn ⟨by decide, by decide⟩ mok_X1_restIn ll_522 ll_523) (plc (lfl (q := 15) rfl ⟨by decide, by decide⟩ rfl mt_X1_lambda_all_11 ⟨by decide, by decide⟩ mok_X1_lambda_all_11 ll_520 ll_521) (plc (lfl (q := 18) rfl ⟨by decide, by decide⟩ rfl mt_X1_lambda_all_14 ⟨by decide, by decide⟩ mok_X1_lambda_all_14 ll_518 ll_519) (plc (lfl (q := 24) rfl ⟨by decide, by decide⟩ rfl mt_X1_lambda_all_20 ⟨by decide, by decide⟩ mok_X1_lambda_all_20 ll_516 ll_517) (plc (lfl (q := 27) rfl ⟨by decide, by decide⟩ rfl mt_X1_lambda_all_23 ⟨by decide, by decide⟩ mok_X1_lambda_all_23 ll_514 ll_515) (trivial)))))))))) (ihN rfl) rfl ?_
  refine bplain (pc' := 75) rfl dX0_done_74 rfl (ihN rfl) rfl ?_
  refine bplain (pc' := 76) rfl dX0_done_75 rfl (ihN rfl) rfl ?_
  refine bret (pc' := 77) rfl dX0_done_76 rfl (rfl) (ihN rfl) rfl ?_
  exact trivial
theorem tf_X0_done : ∀ x ∈ tb_X0_done, BOK mt 334 x.1 x.2 := tb_c mt_X0_done bf_X0_done_0 (tb_c mt_X0_done bf_X0_done_28 (tb_c mt_X0_done bf_X0_done_44 (tb_c mt_X0_done bf_X0_done_62 (tb_n))))
theorem bf_X4_cast_0 : BOKt mt tX4_cast 335 0 b_X4_cast_0 := by
  refine bplain (pc' := 1) rfl dX4_cast_0 rfl (ihN rfl) rfl ?_
  refine bthr (pc' := 4) rfl dX4_cast_1 rfl (lkf0 q1227 lf_211) (trivial) (ihN rfl) rfl ?_
  exact bsw rfl dX4_cast_4 (swt (by decide) (by decide) (by decide) (by decide) (by decide +kernel) (by decide +kernel)) (by decide +kernel) (ihN rfl)
theorem bf_X4_cast_32 : BOKt mt tX4_cast 335 32 b_X4_cast_32 := by
  refine bplain (pc' := 33) rfl dX4_cast_32 rfl (ihN rfl) rfl ?_
  refine bplain (pc' := 34) rfl dX4_cast_33 rfl (ihN rfl) rfl ?_
  refine bplain (pc' := 35) rfl dX4_cast_34 rfl (ihN rfl) rfl ?_
  refine bplain (pc' := 36) rfl dX4_cast_35 rfl (ihN rfl) rfl ?_
  refine bret (pc' := 37) rfl dX4_cast_36 rfl (rfl) (ihN rfl) rfl ?_
  exact trivial
theorem bf_X4_cast_37 : BOKt mt tX4_cast 335 37 b_X4_cast_37 := by
  refine bplain (pc' := 38) rfl dX4_cast_37 rfl (ihN rfl) rfl ?_
  refine bplain (pc' := 39) rfl dX4_cast_38 rfl (ihN rfl) rfl ?_
  refine bplain (pc' := 40) rfl dX4_cast_39 rfl (ihN rfl) rfl ?_
  refine bret (pc' := 41) rfl dX4_cast_40 rfl (rfl) (ihN rfl) rfl ?_
  exact trivial
theorem bf_X4_cast_41 : BOKt mt tX4_cast 335 41 b_X4_cast_41 := by
  refine bplain (pc' := 42) rfl dX4_cast_41 rfl (ihN rfl) rfl ?_
  refine bplain (pc' := 43) rfl dX4_cast_42 rfl (ihN rfl) rfl ?_
  refine bplain (pc' := 44) rfl dX4_cast_43 rfl (ihN rfl) rfl ?_
  refine bplain (pc' := 45) rfl dX4_cast_44 rfl (ihN rfl) rfl ?_
  refine bplain (pc' := 46) rfl dX4_cast_45 rfl (ihN rfl) rfl ?_
  refine bret (pc' := 47) rfl dX4_cast_46 rfl (rfl) (ihN rfl) rfl ?_
  exact trivial
theorem bf_X4_cast_47 : BOKt mt tX4_cast 335 47 b_X4_cast_47 := by
  refine bplain (pc' := 48) rfl dX4_cast_47 rfl (ihN rfl) rfl ?_
  refine bplain (pc' := 49) rfl dX4_cast_48 rfl (ihN rfl) rfl ?_
  refine bplain (pc' := 50) rfl dX4_cast_49 rfl (ihN rfl) rfl ?_
  refine bret (pc' := 51) rfl dX4_cast_50 rfl (rfl) (ihN rfl) rfl ?_
  exact trivial
theorem tf_X4_cast : ∀ x ∈ tb_X4_cast, BOK mt 335 x.1 x.2 := tb_c mt_X4_cast bf_X4_cast_0 (tb_c mt_X4_cast bf_X4_cast_32 (tb_c mt_X4_cast bf_X4_cast_37 (tb_c mt_X4_cast bf_X4_cast_41 (tb_c mt_X4_cast bf_X4_cast_47 (tb_n)))))
theorem bf_X2_brings_0 : BOKt mt tX2_brings 336 0 b_X2_brings_0 := by
  refine bplain (pc' := 1) rfl dX2_brings_0 rfl (ihN rfl) rfl ?_
  refine bplain (pc' := 2) rfl dX2_brings_1 rfl (ihN rfl) rfl ?_
  refine bcall (pc' := 5) rfl dX2_brings_2 rfl (trivial) (lcv (n := 1) rfl (pvc (lfv mt_X6_at ⟨by decide, by decide⟩ mok_X6_at ⟨by decide, by decide⟩ ⟨q1785, ln_342, Or.inl ⟨q2381, Or.inl q1786⟩⟩) (trivial)) (Or.inl (by decide))) (ihN rfl) rfl ?_
  refine bplain (pc' := 7) rfl dX2_brings_5 rfl (ihN rfl) rfl ?_
  refine bplain (pc' := 9) rfl dX2_brings_7 rfl (ihN rfl) rfl ?_
  refine bplain (pc' := 11) rfl dX2_brings_9 rfl (ihN rfl) rfl ?_
  refine bthr (pc' := 14) rfl dX2_brings_11 rfl (lkf1 (host := "StrideTurns") (by decide) q1667 lf_310) (trivial) (ihN rfl) rfl ?_
  refine bplain (pc' := 15) rfl dX2_brings_14 rfl (ihN rfl) rfl ?_
  refine bplain (pc' := 17) rfl dX2_brings_15 rfl (ihN rfl) rfl ?_
  refine bthr (pc' := 20) rfl dX2_brings_17 rfl (lkf1 (host := "StrideTurns") (by decide) q1679 lf_308) (trivial) (ihN rfl) rfl ?_
  refine bplain (pc' := 21) rfl dX2_brings_20 rfl (ihN rfl) rfl ?_
  refine bthr (pc' := 24) rfl dX2_brings_21 rfl (lkf0 q1085 lf_459) (trivial) (ihN rfl) rfl ?_
  refine bplain (pc' := 25) rfl dX2_brings_24 rfl (ihN rfl) rfl ?_
  refine bthr (pc' := 28) rfl dX2_brings_25 rfl (lkf0 q1088 lf_455) (trivial) (ihN rfl) rfl ?_
  refine bcall (pc' := 33) rfl dX2_brings_28 rfl (trivial) (lcl (n := 2) (j := 2) rfl q2388 ln_252 rfl (plc (lfl (q := 31) rfl ⟨by decide, by decide⟩ rfl mt_X7_lambda_new_0 ⟨by decide, by decide⟩ mok_X7_lambda_new_0 ll_388 ll_389) (plc (lfl (q := 35) rfl ⟨by decide, by decide⟩ rfl mt_X7_lambda_moves_1 ⟨by decide, by decide⟩ mok_X7_lambda_moves_1 ll_386 ll_387) (trivial)))) (ihN rfl) rfl ?_
  refine bplain (pc' := 34) rfl dX2_brings_33 rfl (ihN rfl) rfl ?_
  refine bplain (pc' := 36) rfl dX2_brings_34 rfl (ihN rfl) rfl ?_
  refine bplain (pc' := 37) rfl dX2_brings_36 rfl (ihN rfl) rfl ?_
  refine bthr (pc' := 40) rfl dX2_brings_37 rfl (lkf0 q1090 lf_104) (trivial) (ihN rfl) rfl ?_
  refine bthr (pc' := 43) rfl dX2_brings_40 rfl (lkf1 (host := "StrideTurns") (by decide) q1114 lf_113) (trivial) (ihN rfl) rfl ?_
  refine bplain (pc' := 45) rfl dX2_brings_43 rfl (ihN rfl) rfl ?_
  refine bthr (pc' := 48) rfl dX2_brings_45 rfl (lkf1 (host := "StrideTurns") (by decide) q1667 lf_310) (trivial) (ihN rfl) rfl ?_
  refine bplain (pc' := 49) rfl dX2_brings_48 rfl (ihN rfl) rfl ?_
  refine bplain (pc' := 51) rfl dX2_brings_49 rfl (ihN rfl) rfl ?_
  refine bplain (pc' := 52) rfl dX2_brings_51 rfl (ihN rfl) rfl ?_
  refine bthr (pc' := 55) rfl dX2_brings_52 rfl (lkf1 (host := "StrideTurns") (by decide) q1695 lf_322) (trivial) (ihN rfl) rfl ?_
  refine bthr (pc' := 58) rfl dX2_brings_55 rfl (lkf1 (host := "StrideTurns") (by decide) q255 lf_5) (trivial) (ihN rfl) rfl ?_
  refine bplain (pc' := 59) rfl dX2_brings_58 rfl (ihN rfl) rfl ?_
  refine bjmp (tg := 66) (pc' := 62) rfl (by decide) (by decide) rfl dX2_brings_59 rfl (ihN rfl) rfl ?_
  refine bplain (pc' := 63) rfl dX2_brings_62 rfl (ihN rfl) rfl ?_
  refine bjmp (tg := 67) (pc' := 66) rfl (by decide) (by decide) rfl dX2_brings_63 rfl (ihN rfl) rfl ?_
  exact trivial
theorem bf_X2_brings_66 : BOKt mt tX2_brings 336 66 b_X2_brings_66 := by
  refine bplain (pc' := 67) rfl dX2_brings_66 rfl (ihN rfl) rfl ?_
  exact bnop0 rfl (by decide)
theorem bf_X2_brings_67 : BOKt mt tX2_brings 336 67 b_X2_brings_67 := by
  refine bnop1 ?_
  refine bplain (pc' := 69) rfl dX2_brings_67 rfl (ihN rfl) rfl ?_
  refine bplain (pc' := 71) rfl dX2_brings_69 rfl (ihN rfl) rfl ?_
  refine bjmp (tg := 92) (pc' := 74) rfl (by decide) (by decide) rfl dX2_brings_71 rfl (ihN rfl) rfl ?_
  refine bplain (pc' := 75) rfl dX2_brings_74 rfl (ihN rfl) rfl ?_
  refine bthr (pc' := 78) rfl dX2_brings_75 rfl (lkf0 q1083 lf_108) (trivial) (ihN rfl) rfl ?_
  refine bplain (pc' := 80) rfl dX2_brings_78 rfl (ihN rfl) rfl ?_
  refine bplain (pc' := 81) rfl dX2_brings_80 rfl (ihN rfl) rfl ?_
  refine bjmp (tg := 92) (pc' := 84) rfl (by decide) (by decide) rfl dX2_brings_81 rfl (ihN rfl) rfl ?_
  refine bplain (pc' := 85) rfl dX2_brings_84 rfl (ihN rfl) rfl ?_
  refine bthr (pc' := 88) rfl dX2_brings_85 rfl (lkf0 q1081 lf_106) (trivial) (ihN rfl) rfl ?_
  refine bplain (pc' := 90) rfl dX2_brings_88 rfl (ihN rfl) rfl ?_
  refine bplain (pc' := 91) rfl dX2_brings_90 rfl (ihN rfl) rfl ?_
  refine bplain (pc' := 92) rfl dX2_brings_91 rfl (ihN rfl) rfl ?_
  exact bnop0 rfl (by decide)
theorem bf_X2_brings_92 : BOKt mt tX2_brings 336 92 b_X2_brings_92 := by
  refine bnop1 ?_
  refine bplain (pc' := 93) rfl dX2_brings_92 rfl (ihN rfl) rfl ?_
  refine bthr (pc' := 96) rfl dX2_brings_93 rfl (lkf0 q1081 lf_106) (trivial) (ihN rfl) rfl ?_
  refine bplain (pc' := 98) rfl dX2_brings_96 rfl (ihN rfl) rfl ?_
  refine bplain (pc' := 99) rfl dX2_brings_98 rfl (ihN rfl) rfl ?_
  refine bthr (pc' := 102) rfl dX2_brings_99 rfl (lkf0 q1083 lf_108) (trivial) (ihN rfl) rfl ?_
  refine bplain (pc' := 104) rfl dX2_brings_102 rfl (ihN rfl) rfl ?_
  refine bplain (pc' := 105) rfl dX2_brings_104 rfl (ihN rfl) rfl ?_
  refine bjmp (tg := 113) (pc' := 108) rfl (by decide) (by decide) rfl dX2_brings_105 rfl (ihN rfl) rfl ?_
  refine bplain (pc' := 110) rfl dX2_brings_108 rfl (ihN rfl) rfl ?_
  refine bjmp (tg := 144) (pc' := 113) rfl (by decide) (by decide) rfl dX2_brings_110 rfl (ihN rfl) rfl ?_
  exact bnop0 rfl (by decide)
theorem bf_X2_brings_113 : BOKt mt tX2_brings 336 113 b_X2_brings_113 := by
  refine bnop1 ?_
  refine bplain (pc' := 115) rfl dX2_brings_113 rfl (ihN rfl) rfl ?_
  refine bplain (pc' := 116) rfl dX2_brings_115 rfl (ihN rfl) rfl ?_
  refine bthr (pc' := 119) rfl dX2_brings_116 rfl (lkf1 (host := "StrideTurns") (by decide) q1695 lf_322) (trivial) (ihN rfl) rfl ?_
  refine bplain (pc' := 120) rfl dX2_brings_119 rfl (ihN rfl) rfl ?_
  refine bthr (pc' := 123) rfl dX2_brings_120 rfl (lkf0 q1090 lf_104) (trivial) (ihN rfl) rfl ?_
  refine bplain (pc' := 124) rfl dX2_brings_123 rfl (ihN rfl) rfl ?_
  refine bcall (pc' := 127) rfl dX2_brings_124 rfl (trivial) (lcv (n := 1) rfl (pvc (lfv mt_X0_widthOf ⟨by decide, by decide⟩ mok_X0_widthOf ⟨by decide, by decide⟩ ⟨q2410, ln_530, Or.inr (Or.inl ⟨rfl, "StrideTurns", q2408, Or.inl qs41⟩)⟩) (trivial)) (Or.inl (by decide))) (ihN rfl) rfl ?_
  refine bplain (pc' := 128) rfl dX2_brings_127 rfl (ihN rfl) rfl ?_
  refine bthr (pc' := 131) rfl dX2_brings_128 rfl (lkf0 q1081 lf_106) (trivial) (ihN rfl) rfl ?_
  refine bplain (pc' := 133) rfl dX2_brings_131 rfl (ihN rfl) rfl ?_
  refine bplain (pc' := 134) rfl dX2_brings_133 rfl (ihN rfl) rfl ?_
  refine bplain (pc' := 135) rfl dX2_brings_134 rfl (ihN rfl) rfl ?_
  refine bcall (pc' := 138) rfl dX2_brings_135 rfl (trivial) (lcs (l := q2426) mt_X0_done ⟨by decide, by decide⟩ mok_X0_done rfl ln_531 (Or.inr ⟨"StrideTurns", q2425⟩)) (ihN rfl) rfl ?_
  refine bcall (pc' := 141) rfl dX2_brings_138 rfl (trivial) (lcv (n := 1) rfl (pvc (lfv mt_X4_cast ⟨by decide, by decide⟩ mok_X4_cast ⟨by decide, by decide⟩ ⟨q2441, ln_532, Or.inl ⟨q2440, Or.inl q2442⟩⟩) (trivial)) (Or.inl (by decide))) (ihN rfl) rfl ?_
  refine bjmp (tg := 150) (pc' := 144) rfl (by decide) (by decide) rfl dX2_brings_141 rfl (ihN rfl) rfl ?_
  exact trivial
theorem bf_X2_brings_144 : BOKt mt tX2_brings 336 144 b_X2_brings_144 := by
  refine bplain (pc' := 146) rfl dX2_brings_144 rfl (ihN rfl) rfl ?_
  refine bplain (pc' := 147) rfl dX2_brings_146 rfl (ihN rfl) rfl ?_
  refine bcall (pc' := 150) rfl dX2_brings_147 rfl (trivial) (lcv (n := 1) rfl (pvc (lfv mt_X4_cast ⟨by decide, by decide⟩ mok_X4_cast ⟨by decide, by decide⟩ ⟨q2441, ln_532, Or.inl ⟨q2440, Or.inl q2442⟩⟩) (trivial)) (Or.inl (by decide))) (ihN rfl) rfl ?_
  exact bnop0 rfl (by decide)
theorem bf_X2_brings_150 : BOKt mt tX2_brings 336 150 b_X2_brings_150 := by
  refine bnop1 ?_
  refine bplain (pc' := 151) rfl dX2_brings_150 rfl (ihN rfl) rfl ?_
  refine bplain (pc' := 152) rfl dX2_brings_151 rfl (ihN rfl) rfl ?_
  refine bthr (pc' := 155) rfl dX2_brings_152 rfl (lkf0 q1083 lf_108) (trivial) (ihN rfl) rfl ?_
  refine bplain (pc' := 157) rfl dX2_brings_155 rfl (ihN rfl) rfl ?_
  refine bplain (pc' := 158) rfl dX2_brings_157 rfl (ihN rfl) rfl ?_
  refine bplain (pc' := 159) rfl dX2_brings_158 rfl (ihN rfl) rfl ?_
  refine bret (pc' := 160) rfl dX2_brings_159 rfl (rfl) (ihN rfl) rfl ?_
  exact trivial
theorem tf_X2_brings : ∀ x ∈ tb_X2_brings, BOK mt 336 x.1 x.2 := tb_c mt_X2_brings bf_X2_brings_0 (tb_c mt_X2_brings bf_X2_brings_66 (tb_c mt_X2_brings bf_X2_brings_67 (tb_c mt_X2_brings bf_X2_brings_92 (tb_c mt_X2_brings bf_X2_brings_113 (tb_c mt_X2_brings bf_X2_brings_144 (tb_c mt_X2_brings bf_X2_brings_150 (tb_n)))))))
theorem bf_X0_isGreater_0 : BOKt mt tX0_isGreater 337 0 b_X0_isGreater_0 := by
  refine bplain (pc' := 1) rfl dX0_isGreater_0 rfl (ihN rfl) rfl ?_
  refine bplain (pc' := 2) rfl dX0_isGreater_1 rfl (ihN rfl) rfl ?_
  refine bjmp (tg := 20) (pc' := 5) rfl (by decide) (by decide) rfl dX0_isGreater_2 rfl (ihN rfl) rfl ?_
  refine bplain (pc' := 6) rfl dX0_isGreater_5 rfl (ihN rfl) rfl ?_
  refine bplain (pc' := 7) rfl dX0_isGreater_6 rfl (ihN rfl) rfl ?_
  refine bplain (pc' := 8) rfl dX0_isGreater_7 rfl (ihN rfl) rfl ?_
  refine bplain (pc' := 9) rfl dX0_isGreater_8 rfl (ihN rfl) rfl ?_
  refine bjmp (tg := 16) (pc' := 12) rfl (by decide) (by decide) rfl dX0_isGreater_9 rfl (ihN rfl) rfl ?_
  refine bplain (pc' := 13) rfl dX0_isGreater_12 rfl (ihN rfl) rfl ?_
  refine bjmp (tg := 52) (pc' := 16) rfl (by decide) (by decide) rfl dX0_isGreater_13 rfl (ihN rfl) rfl ?_
  exact trivial
theorem bf_X0_isGreater_16 : BOKt mt tX0_isGreater 337 16 b_X0_isGreater_16 := by
  refine bplain (pc' := 17) rfl dX0_isGreater_16 rfl (ihN rfl) rfl ?_
  refine bjmp (tg := 52) (pc' := 20) rfl (by decide) (by decide) rfl dX0_isGreater_17 rfl (ihN rfl) rfl ?_
  exact trivial
theorem bf_X0_isGreater_20 : BOKt mt tX0_isGreater 337 20 b_X0_isGreater_20 := by
  refine bplain (pc' := 21) rfl dX0_isGreater_20 rfl (ihN rfl) rfl ?_
  refine bplain (pc' := 22) rfl dX0_isGreater_21 rfl (ihN rfl) rfl ?_
  refine bjmp (tg := 41) (pc' := 25) rfl (by decide) (by decide) rfl dX0_isGreater_22 rfl (ihN rfl) rfl ?_
  refine bplain (pc' := 26) rfl dX0_isGreater_25 rfl (ihN rfl) rfl ?_
  refine bplain (pc' := 27) rfl dX0_isGreater_26 rfl (ihN rfl) rfl ?_
  refine bplain (pc' := 28) rfl dX0_isGreater_27 rfl (ihN rfl) rfl ?_
  refine bplain (pc' := 29) rfl dX0_isGreater_28 rfl (ihN rfl) rfl ?_
  refine bplain (pc' := 30) rfl dX0_isGreater_29 rfl (ihN rfl) rfl ?_
  refine bjmp (tg := 37) (pc' := 33) rfl (by decide) (by decide) rfl dX0_isGreater_30 rfl (ihN rfl) rfl ?_
  refine bplain (pc' := 34) rfl dX0_isGreater_33 rfl (ihN rfl) rfl ?_
  refine bjmp (tg := 52) (pc' := 37) rfl (by decide) (by decide) rfl dX0_isGreater_34 rfl (ihN rfl) rfl ?_
  exact trivial
theorem bf_X0_isGreater_37 : BOKt mt tX0_isGreater 337 37 b_X0_isGreater_37 := by
  refine bplain (pc' := 38) rfl dX0_isGreater_37 rfl (ihN rfl) rfl ?_
  refine bjmp (tg := 52) (pc' := 41) rfl (by decide) (by decide) rfl dX0_isGreater_38 rfl (ihN rfl) rfl ?_
  exact trivial
theorem bf_X0_isGreater_41 : BOKt mt tX0_isGreater 337 41 b_X0_isGreater_41 := by
  refine bplain (pc' := 42) rfl dX0_isGreater_41 rfl (ihN rfl) rfl ?_
  refine bplain (pc' := 43) rfl dX0_isGreater_42 rfl (ihN rfl) rfl ?_
  refine bplain (pc' := 44) rfl dX0_isGreater_43 rfl (ihN rfl) rfl ?_
  refine bjmp (tg := 51) (pc' := 47) rfl (by decide) (by decide) rfl dX0_isGreater_44 rfl (ihN rfl) rfl ?_
  refine bplain (pc' := 48) rfl dX0_isGreater_47 rfl (ihN rfl) rfl ?_
  refine bjmp (tg := 52) (pc' := 51) rfl (by decide) (by decide) rfl dX0_isGreater_48 rfl (ihN rfl) rfl ?_
  exact trivial
theorem bf_X0_isGreater_51 : BOKt mt tX0_isGreater 337 51 b_X0_isGreater_51 := by
  refine bplain (pc' := 52) rfl dX0_isGreater_51 rfl (ihN rfl) rfl ?_
  exact bnop0 rfl (by decide)
theorem bf_X0_isGreater_52 : BOKt mt tX0_isGreater 337 52 b_X0_isGreater_52 := by
  refine bnop1 ?_
  refine bret (pc' := 53) rfl dX0_isGreater_52 rfl (Or.inr ⟨rfl, rfl⟩) (ihN rfl) rfl ?_
  exact trivial
theorem tf_X0_isGreater : ∀ x ∈ tb_X0_isGreater, BOK mt 337 x.1 x.2 := tb_c mt_X0_isGreater bf_X0_isGreater_0 (tb_c mt_X0_isGreater bf_X0_isGreater_16 (tb_c mt_X0_isGreater bf_X0_isGreater_20 (tb_c mt_X0_isGreater bf_X0_isGreater_37 (tb_c mt_X0_isGreater bf_X0_isGreater_41 (tb_c mt_X0_isGreater bf_X0_isGreater_51 (tb_c mt_X0_isGreater bf_X0_isGreater_52 (tb_n)))))))
theorem bf_X4_becomes_0 : BOKt mt tX4_becomes 338 0 b_X4_becomes_0 := by
  refine bplain (pc' := 1) rfl dX4_becomes_0 rfl (ihN rfl) rfl ?_
  refine bthr (pc' := 4) rfl dX4_becomes_1 rfl (lkf0 q1227 lf_211) (trivial) (ihN rfl) rfl ?_
  exact bsw rfl dX4_becomes_4 (swt (by decide) (by decide) (by decide) (by decide) (by decide +kernel) (by decide +kernel)) (by decide +kernel) (ihN rfl)
theorem bf_X4_becomes_32 : BOKt mt tX4_becomes 338 32 b_X4_becomes_32 := by
  refine bplain (pc' := 33) rfl dX4_becomes_32 rfl (ihN rfl) rfl ?_
  refine bthr (pc' := 36) rfl dX4_becomes_33 rfl (lkf0 q1225 lf_214) (trivial) (ihN rfl) rfl ?_
  refine bthr (pc' := 39) rfl dX4_becomes_36 rfl (lkc (nm := "[S") q1320 lg_21 lb_22) (Or.inl rfl) (ihN rfl) rfl ?_
  refine bplain (pc' := 40) rfl dX4_becomes_39 rfl (ihN rfl) rfl ?_
  refine bplain (pc' := 41) rfl dX4_becomes_40 rfl (ihN rfl) rfl ?_
  refine bplain (pc' := 42) rfl dX4_becomes_41 rfl (ihN rfl) rfl ?_
  refine bplain (pc' := 43) rfl dX4_becomes_42 rfl (ihN rfl) rfl ?_
  refine bplain (pc' := 44) rfl dX4_becomes_43 rfl (ihN rfl) rfl ?_
  refine bjmp (tg := 85) (pc' := 47) rfl (by decide) (by decide) rfl dX4_becomes_44 rfl (ihN rfl) rfl ?_
  exact trivial
theorem bf_X4_becomes_47 : BOKt mt tX4_becomes 338 47 b_X4_becomes_47 := by
  refine bplain (pc' := 48) rfl dX4_becomes_47 rfl (ihN rfl) rfl ?_
  refine bthr (pc' := 51) rfl dX4_becomes_48 rfl (lkf0 q1225 lf_214) (trivial) (ihN rfl) rfl ?_
  refine bthr (pc' := 54) rfl dX4_becomes_51 rfl (lkc (nm := "[I") q1321 lg_24 lb_25) (Or.inl rfl) (ihN rfl) rfl ?_
  refine bplain (pc' := 55) rfl dX4_becomes_54 rfl (ihN rfl) rfl ?_
  refine bplain (pc' := 56) rfl dX4_becomes_55 rfl (ihN rfl) rfl ?_
  refine bplain (pc' := 57) rfl dX4_becomes_56 rfl (ihN rfl) rfl ?_
  refine bplain (pc' := 58) rfl dX4_becomes_57 rfl (ihN rfl) rfl ?_
  refine bjmp (tg := 85) (pc' := 61) rfl (by decide) (by decide) rfl dX4_becomes_58 rfl (ihN rfl) rfl ?_
  exact trivial
theorem bf_X4_becomes_61 : BOKt mt tX4_becomes 338 61 b_X4_becomes_61 := by
  refine bplain (pc' := 62) rfl dX4_becomes_61 rfl (ihN rfl) rfl ?_
  refine bthr (pc' := 65) rfl dX4_becomes_62 rfl (lkf0 q1225 lf_214) (trivial) (ihN rfl) rfl ?_
  refine bthr (pc' := 68) rfl dX4_becomes_65 rfl (lkc (nm := "[F") q1322 lg_231 lb_244) (Or.inl rfl) (ihN rfl) rfl ?_
  refine bplain (pc' := 69) rfl dX4_becomes_68 rfl (ihN rfl) rfl ?_
  refine bplain (pc' := 70) rfl dX4_becomes_69 rfl (ihN rfl) rfl ?_
  refine bplain (pc' := 71) rfl dX4_becomes_70 rfl (ihN rfl) rfl ?_
  refine bplain (pc' := 72) rfl dX4_becomes_71 rfl (ihN rfl) rfl ?_
  refine bjmp (tg := 85) (pc' := 75) rfl (by decide) (by decide) rfl dX4_becomes_72 rfl (ihN rfl) rfl ?_
  exact trivial
theorem bf_X4_becomes_75 : BOKt mt tX4_becomes 338 75 b_X4_becomes_75 := by
  refine bplain (pc' := 76) rfl dX4_becomes_75 rfl (ihN rfl) rfl ?_
  refine bthr (pc' := 79) rfl dX4_becomes_76 rfl (lkf0 q1225 lf_214) (trivial) (ihN rfl) rfl ?_
  refine bthr (pc' := 82) rfl dX4_becomes_79 rfl (lkc (nm := "[D") q1324 lg_233 lb_246) (Or.inl rfl) (ihN rfl) rfl ?_
  refine bplain (pc' := 83) rfl dX4_becomes_82 rfl (ihN rfl) rfl ?_
  refine bplain (pc' := 84) rfl dX4_becomes_83 rfl (ihN rfl) rfl ?_
  refine bplain (pc' := 85) rfl dX4_becomes_84 rfl (ihN rfl) rfl ?_
  exact bnop0 rfl (by decide)
theorem bf_X4_becomes_85 : BOKt mt tX4_becomes 338 85 b_X4_becomes_85 := by
  refine bnop1 ?_
  refine bret (pc' := 86) rfl dX4_becomes_85 rfl (rfl) (ihN rfl) rfl ?_
  exact trivial
theorem tf_X4_becomes : ∀ x ∈ tb_X4_becomes, BOK mt 338 x.1 x.2 := tb_c mt_X4_becomes bf_X4_becomes_0 (tb_c mt_X4_becomes bf_X4_becomes_32 (tb_c mt_X4_becomes bf_X4_becomes_47 (tb_c mt_X4_becomes bf_X4_becomes_61 (tb_c mt_X4_becomes bf_X4_becomes_75 (tb_c mt_X4_becomes bf_X4_becomes_85 (tb_n))))))
theorem bf_X2_writes_0 : BOKt mt tX2_writes 339 0 b_X2_writes_0 := by
  refine bplain (pc' := 1) rfl dX2_writes_0 rfl (ihN rfl) rfl ?_
  refine bthr (pc' := 4) rfl dX2_writes_1 rfl (lkf1 (host := "StrideTurns") (by decide) q1679 lf_308) (trivial) (ihN rfl) rfl ?_
  refine bplain (pc' := 5) rfl dX2_writes_4 rfl (ihN rfl) rfl ?_
  refine bthr (pc' := 8) rfl dX2_writes_5 rfl (lkf0 q1085 lf_459) (trivial) (ihN rfl) rfl ?_
  refine bplain (pc' := 9) rfl dX2_writes_8 rfl (ihN rfl) rfl ?_
  refine bthr (pc' := 12) rfl dX2_writes_9 rfl (lkf0 q1088 lf_455) (trivial) (ihN rfl) rfl ?_
  refine bcall (pc' := 17) rfl dX2_writes_12 rfl (trivial) (lcl (n := 2) (j := 2) rfl q2388 ln_252 rfl (plc (lfl (q := 31) rfl ⟨by decide, by decide⟩ rfl mt_X7_lambda_new_0 ⟨by decide, by decide⟩ mok_X7_lambda_new_0 ll_388 ll_389) (plc (lfl (q := 35) rfl ⟨by decide, by decide⟩ rfl mt_X7_lambda_moves_1 ⟨by decide, by decide⟩ mok_X7_lambda_moves_1 ll_386 ll_387) (trivial)))) (ihN rfl) rfl ?_
  refine bplain (pc' := 19) rfl dX2_writes_17 rfl (ihN rfl) rfl ?_
  refine bplain (pc' := 21) rfl dX2_writes_19 rfl (ihN rfl) rfl ?_
  refine bplain (pc' := 22) rfl dX2_writes_21 rfl (ihN rfl) rfl ?_
  refine bthr (pc' := 25) rfl dX2_writes_22 rfl (lkf1 (host := "StrideTurns") (by decide) q1667 lf_310) (trivial) (ihN rfl) rfl ?_
  refine bplain (pc' := 26) rfl dX2_writes_25 rfl (ihN rfl) rfl ?_
  refine bplain (pc' := 28) rfl dX2_writes_26 rfl (ihN rfl) rfl ?_
  refine bplain (pc' := 29) rfl dX2_writes_28 rfl (ihN rfl) rfl ?_
  refine bplain (pc' := 31) rfl dX2_writes_29 rfl (ihN rfl) rfl ?_
  refine bplain (pc' := 32) rfl dX2_writes_31 rfl (ihN rfl) rfl ?_
  refine bthr (pc' := 35) rfl dX2_writes_32 rfl (lkf0 q1090 lf_104) (trivial) (ihN rfl) rfl ?_
  refine bthr (pc' := 38) rfl dX2_writes_35 rfl (lkf1 (host := "StrideTurns") (by decide) q1125 lf_126) (trivial) (ihN rfl) rfl ?_
  refine bplain (pc' := 39) rfl dX2_writes_38 rfl (ihN rfl) rfl ?_
  refine bthr (pc' := 42) rfl dX2_writes_39 rfl (lkf1 (host := "StrideTurns") (by decide) q1667 lf_310) (trivial) (ihN rfl) rfl ?_
  refine bplain (pc' := 43) rfl dX2_writes_42 rfl (ihN rfl) rfl ?_
  refine bplain (pc' := 44) rfl dX2_writes_43 rfl (ihN rfl) rfl ?_
  refine bjmp (tg := 66) (pc' := 47) rfl (by decide) (by decide) rfl dX2_writes_44 rfl (ihN rfl) rfl ?_
  refine bplain (pc' := 48) rfl dX2_writes_47 rfl (ihN rfl) rfl ?_
  refine bthr (pc' := 51) rfl dX2_writes_48 rfl (lkf0 q1081 lf_106) (trivial) (ihN rfl) rfl ?_
  refine bplain (pc' := 53) rfl dX2_writes_51 rfl (ihN rfl) rfl ?_
  refine bplain (pc' := 54) rfl dX2_writes_53 rfl (ihN rfl) rfl ?_
  refine bplain (pc' := 55) rfl dX2_writes_54 rfl (ihN rfl) rfl ?_
  refine bplain (pc' := 56) rfl dX2_writes_55 rfl (ihN rfl) rfl ?_
  refine bthr (pc' := 59) rfl dX2_writes_56 rfl (lkf0 q1083 lf_108) (trivial) (ihN rfl) rfl ?_
  refine bplain (pc' := 61) rfl dX2_writes_59 rfl (ihN rfl) rfl ?_
  refine bplain (pc' := 62) rfl dX2_writes_61 rfl (ihN rfl) rfl ?_
  refine bplain (pc' := 63) rfl dX2_writes_62 rfl (ihN rfl) rfl ?_
  refine bjmp (tg := 106) (pc' := 66) rfl (by decide) (by decide) rfl dX2_writes_63 rfl (ihN rfl) rfl ?_
  exact trivial
theorem bf_X2_writes_66 : BOKt mt tX2_writes 339 66 b_X2_writes_66 := by
  refine bplain (pc' := 67) rfl dX2_writes_66 rfl (ihN rfl) rfl ?_
  refine bthr (pc' := 70) rfl dX2_writes_67 rfl (lkf0 q1090 lf_104) (trivial) (ihN rfl) rfl ?_
  refine bthr (pc' := 73) rfl dX2_writes_70 rfl (lkf1 (host := "StrideTurns") (by decide) q1114 lf_113) (trivial) (ihN rfl) rfl ?_
  refine bplain (pc' := 74) rfl dX2_writes_73 rfl (ihN rfl) rfl ?_
  refine bthr (pc' := 77) rfl dX2_writes_74 rfl (lkf1 (host := "StrideTurns") (by decide) q1667 lf_310) (trivial) (ihN rfl) rfl ?_
  refine bplain (pc' := 78) rfl dX2_writes_77 rfl (ihN rfl) rfl ?_
  refine bplain (pc' := 80) rfl dX2_writes_78 rfl (ihN rfl) rfl ?_
  refine bplain (pc' := 81) rfl dX2_writes_80 rfl (ihN rfl) rfl ?_
  refine bcall (pc' := 84) rfl dX2_writes_81 rfl (trivial) (lcv (n := 2) rfl (pvc (lfv mt_X4_becomes ⟨by decide, by decide⟩ mok_X4_becomes ⟨by decide, by decide⟩ ⟨q2452, ln_533, Or.inl ⟨q2451, Or.inl q2453⟩⟩) (trivial)) (Or.inl (by decide))) (ihN rfl) rfl ?_
  refine bplain (pc' := 85) rfl dX2_writes_84 rfl (ihN rfl) rfl ?_
  refine bthr (pc' := 88) rfl dX2_writes_85 rfl (lkf0 q1090 lf_104) (trivial) (ihN rfl) rfl ?_
  refine bthr (pc' := 91) rfl dX2_writes_88 rfl (lkf1 (host := "StrideTurns") (by decide) q1114 lf_113) (trivial) (ihN rfl) rfl ?_
  refine bplain (pc' := 92) rfl dX2_writes_91 rfl (ihN rfl) rfl ?_
  refine bthr (pc' := 95) rfl dX2_writes_92 rfl (lkf1 (host := "StrideTurns") (by decide) q1667 lf_310) (trivial) (ihN rfl) rfl ?_
  refine bplain (pc' := 96) rfl dX2_writes_95 rfl (ihN rfl) rfl ?_
  refine bthr (pc' := 99) rfl dX2_writes_96 rfl (lkf1 (host := "StrideTurns") (by decide) q1233 lf_218) (trivial) (ihN rfl) rfl ?_
  refine bplain (pc' := 101) rfl dX2_writes_99 rfl (ihN rfl) rfl ?_
  refine bplain (pc' := 102) rfl dX2_writes_101 rfl (ihN rfl) rfl ?_
  refine bthr (pc' := 105) rfl dX2_writes_102 rfl (lkf0 q1085 lf_459) (trivial) (ihN rfl) rfl ?_
  refine bplain (pc' := 106) rfl dX2_writes_105 rfl (ihN rfl) rfl ?_
  exact bnop0 rfl (by decide)
theorem bf_X2_writes_106 : BOKt mt tX2_writes 339 106 b_X2_writes_106 := by
  refine bnop1 ?_
  refine bret (pc' := 107) rfl dX2_writes_106 rfl (rfl) (ihN rfl) rfl ?_
  exact trivial
theorem tf_X2_writes : ∀ x ∈ tb_X2_writes, BOK mt 339 x.1 x.2 := tb_c mt_X2_writes bf_X2_writes_0 (tb_c mt_X2_writes bf_X2_writes_66 (tb_c mt_X2_writes bf_X2_writes_106 (tb_n)))
theorem bf_X2_acts_0 : BOKt mt tX2_acts 340 0 b_X2_acts_0 := by
  refine bplain (pc' := 1) rfl dX2_acts_0 rfl (ihP (fun h => nomatch h) rfl) rfl ?_
  refine bplain (pc' := 2) rfl dX2_acts_1 rfl (ihP (fun h => nomatch h) rfl) rfl ?_
  refine bcall (pc' := 5) rfl dX2_acts_2 rfl (trivial) (lcv (n := 1) rfl (pvc (lfv mt_X6_at ⟨by decide, by decide⟩ mok_X6_at ⟨by decide, by decide⟩ ⟨q1785, ln_342, Or.inl ⟨q2381, Or.inl q1786⟩⟩) (trivial)) (Or.inl (by decide))) (ihH (fun h => nomatch h) (hokN (by decide +kernel))) rfl ?_
  refine bplain (pc' := 6) rfl dX2_acts_5 rfl (ihP (fun h => nomatch h) rfl) rfl ?_
  refine bplain (pc' := 7) rfl dX2_acts_6 rfl (ihP (fun h => nomatch h) rfl) rfl ?_
  refine bplain (pc' := 8) rfl dX2_acts_7 rfl (ihP (fun h => nomatch h) rfl) rfl ?_
  refine bcall (pc' := 11) rfl dX2_acts_8 rfl (trivial) (lcv (n := 1) rfl (pvc (lfv mt_X6_looks ⟨by decide, by decide⟩ mok_X6_looks ⟨by decide, by decide⟩ ⟨q2015, ln_222, Or.inl ⟨q2390, Or.inl q2016⟩⟩) (trivial)) (Or.inl (by decide))) (ihH (fun h => nomatch h) (hokN (by decide +kernel))) rfl ?_
  refine bjmp (tg := 26) (pc' := 14) rfl (by decide) (by decide) rfl dX2_acts_11 rfl (ihP (fun h => nomatch h) rfl) rfl ?_
  refine bplain (pc' := 15) rfl dX2_acts_14 rfl (ihP (fun h => nomatch h) rfl) rfl ?_
  refine bplain (pc' := 16) rfl dX2_acts_15 rfl (ihP (fun h => nomatch h) rfl) rfl ?_
  refine bplain (pc' := 17) rfl dX2_acts_16 rfl (ihP (fun h => nomatch h) rfl) rfl ?_
  refine bcall (pc' := 20) rfl dX2_acts_17 rfl (trivial) (lcv (n := 1) rfl (pvc (lfv mt_X6_at ⟨by decide, by decide⟩ mok_X6_at ⟨by decide, by decide⟩ ⟨q1785, ln_342, Or.inl ⟨q2381, Or.inl q1786⟩⟩) (trivial)) (Or.inl (by decide))) (ihH (fun h => nomatch h) (hokN (by decide +kernel))) rfl ?_
  refine bcall (pc' := 23) rfl dX2_acts_20 rfl (trivial) (lcv (n := 1) rfl (pvc (lfv mt_X2_value ⟨by decide, by decide⟩ mok_X2_value ⟨by decide, by decide⟩ ⟨q2397, ln_534, Or.inl ⟨q2396, Or.inl q2398⟩⟩) (trivial)) (Or.inl (by decide))) (ihH (fun h => nomatch h) (hokN (by decide +kernel))) rfl ?_
  refine bjmp (tg := 27) (pc' := 26) rfl (by decide) (by decide) rfl dX2_acts_23 rfl (ihP (fun h => nomatch h) rfl) rfl ?_
  exact trivial
theorem bf_X2_acts_26 : BOKt mt tX2_acts 340 26 b_X2_acts_26 := by
  refine bplain (pc' := 27) rfl dX2_acts_26 rfl (ihP (fun h => nomatch h) rfl) rfl ?_
  exact bnop0 rfl (by decide)
theorem bf_X2_acts_27 : BOKt mt tX2_acts 340 27 b_X2_acts_27 := by
  refine bnop1 ?_
  refine bplain (pc' := 28) rfl dX2_acts_27 rfl (ihP (fun h => nomatch h) rfl) rfl ?_
  refine bplain (pc' := 29) rfl dX2_acts_28 rfl (ihP (fun h => nomatch h) rfl) rfl ?_
  refine bthr (pc' := 32) rfl dX2_acts_29 rfl (lkf0 q1090 lf_104) (trivial) (ihP (fun h => nomatch h) rfl) rfl ?_
  refine bthr (pc' := 35) rfl dX2_acts_32 rfl (lkf1 (host := "StrideTurns") (by decide) q1125 lf_126) (trivial) (ihP (fun h => nomatch h) rfl) rfl ?_
  refine bplain (pc' := 36) rfl dX2_acts_35 rfl (ihP (fun h => nomatch h) rfl) rfl ?_
  refine bthr (pc' := 39) rfl dX2_acts_36 rfl (lkf1 (host := "StrideTurns") (by decide) q1667 lf_310) (trivial) (ihP (fun h => nomatch h) rfl) rfl ?_
  refine bplain (pc' := 40) rfl dX2_acts_39 rfl (ihP (fun h => nomatch h) rfl) rfl ?_
  refine bplain (pc' := 41) rfl dX2_acts_40 rfl (ihP (fun h => nomatch h) rfl) rfl ?_
  refine bjmp (tg := 52) (pc' := 44) rfl (by decide) (by decide) rfl dX2_acts_41 rfl (ihP (fun h => nomatch h) rfl) rfl ?_
  refine bplain (pc' := 45) rfl dX2_acts_44 rfl (ihP (fun h => nomatch h) rfl) rfl ?_
  refine bplain (pc' := 46) rfl dX2_acts_45 rfl (ihP (fun h => nomatch h) rfl) rfl ?_
  refine bplain (pc' := 47) rfl dX2_acts_46 rfl (ihP (fun h => nomatch h) rfl) rfl ?_
  refine bcall (pc' := 50) rfl dX2_acts_47 rfl (trivial) (lcv (n := 2) rfl (pvc (lfv mt_X2_brings ⟨by decide, by decide⟩ mok_X2_brings ⟨by decide, by decide⟩ ⟨q2405, ln_535, Or.inl ⟨q2404, Or.inl q2406⟩⟩) (trivial)) (Or.inl (by decide))) (ihH (fun h => nomatch h) (hokN (by decide +kernel))) rfl ?_
  refine bplain (pc' := 51) rfl dX2_acts_50 rfl (ihP (fun h => nomatch h) rfl) rfl ?_
  refine bret (pc' := 52) rfl dX2_acts_51 rfl (Or.inl ⟨rfl, rfl⟩) (ihP (fun h => nomatch h) rfl) rfl ?_
  exact trivial
theorem bf_X2_acts_52 : BOKt mt tX2_acts 340 52 b_X2_acts_52 := by
  refine bplain (pc' := 53) rfl dX2_acts_52 rfl (ihP (fun h => nomatch h) rfl) rfl ?_
  refine bplain (pc' := 54) rfl dX2_acts_53 rfl (ihP (fun h => nomatch h) rfl) rfl ?_
  refine bplain (pc' := 55) rfl dX2_acts_54 rfl (ihP (fun h => nomatch h) rfl) rfl ?_
  refine bcall (pc' := 58) rfl dX2_acts_55 rfl (trivial) (lcv (n := 1) rfl (pvc (lfv mt_X6_at ⟨by decide, by decide⟩ mok_X6_at ⟨by decide, by decide⟩ ⟨q1785, ln_342, Or.inl ⟨q2381, Or.inl q1786⟩⟩) (trivial)) (Or.inl (by decide))) (ihH (fun h => nomatch h) (hokN (by decide +kernel))) rfl ?_
  refine bcall (pc' := 61) rfl dX2_acts_58 rfl (trivial) (lcv (n := 1) rfl (pvc (lfv mt_X2_value ⟨by decide, by decide⟩ mok_X2_value ⟨by decide, by decide⟩ ⟨q2397, ln_534, Or.inl ⟨q2396, Or.inl q2398⟩⟩) (trivial)) (Or.inl (by decide))) (ihH (fun h => nomatch h) (hokN (by decide +kernel))) rfl ?_
  refine bplain (pc' := 63) rfl dX2_acts_61 rfl (ihP (fun h => nomatch h) rfl) rfl ?_
  refine bplain (pc' := 64) rfl dX2_acts_63 rfl (ihP (fun h => nomatch h) rfl) rfl ?_
  refine bthr (pc' := 67) rfl dX2_acts_64 rfl (lkf0 q1090 lf_104) (trivial) (ihP (fun h => nomatch h) rfl) rfl ?_
  refine bplain (pc' := 68) rfl dX2_acts_67 rfl (ihP (fun h => nomatch h) rfl) rfl ?_
  refine bcall (pc' := 71) rfl dX2_acts_68 rfl (trivial) (lcv (n := 1) rfl (pvc (lfv mt_X0_widthOf ⟨by decide, by decide⟩ mok_X0_widthOf ⟨by decide, by decide⟩ ⟨q2410, ln_530, Or.inr (Or.inl ⟨rfl, "StrideTurns", q2408, Or.inl qs41⟩)⟩) (trivial)) (Or.inl (by decide))) (ihH (fun h => nomatch h) (hokN (by decide +kernel))) rfl ?_
  refine bplain (pc' := 73) rfl dX2_acts_71 rfl (ihP (fun h => nomatch h) rfl) rfl ?_
  refine bplain (pc' := 74) rfl dX2_acts_73 rfl (ihP (fun h => nomatch h) rfl) rfl ?_
  refine bthr (pc' := 77) rfl dX2_acts_74 rfl (lkf1 (host := "StrideTurns") (by decide) q1695 lf_322) (trivial) (ihP (fun h => nomatch h) rfl) rfl ?_
  refine bthr (pc' := 80) rfl dX2_acts_77 rfl (lkf1 (host := "StrideTurns") (by decide) q252 lf_3) (trivial) (ihP (fun h => nomatch h) rfl) rfl ?_
  refine bplain (pc' := 82) rfl dX2_acts_80 rfl (ihP (fun h => nomatch h) rfl) rfl ?_
  refine bjmp (tg := 98) (pc' := 85) rfl (by decide) (by decide) rfl dX2_acts_82 rfl (ihP (fun h => nomatch h) rfl) rfl ?_
  refine bplain (pc' := 87) rfl dX2_acts_85 rfl (ihP (fun h => nomatch h) rfl) rfl ?_
  refine bplain (pc' := 89) rfl dX2_acts_87 rfl (ihP (fun h => nomatch h) rfl) rfl ?_
  refine bplain (pc' := 90) rfl dX2_acts_89 rfl (ihP (fun h => nomatch h) rfl) rfl ?_
  refine bcall (pc' := 93) rfl dX2_acts_90 rfl (trivial) (lcs (l := q2445) mt_X0_isGreater ⟨by decide, by decide⟩ mok_X0_isGreater rfl ln_536 (Or.inr ⟨"StrideTurns", q2444⟩)) (ihH (fun h => nomatch h) (hokN (by decide +kernel))) rfl ?_
  refine bjmp (tg := 98) (pc' := 96) rfl (by decide) (by decide) rfl dX2_acts_93 rfl (ihP (fun h => nomatch h) rfl) rfl ?_
  refine bplain (pc' := 97) rfl dX2_acts_96 rfl (ihP (fun h => nomatch h) rfl) rfl ?_
  refine bret (pc' := 98) rfl dX2_acts_97 rfl (Or.inl ⟨rfl, rfl⟩) (ihP (fun h => nomatch h) rfl) rfl ?_
  exact trivial
theorem bf_X2_acts_98 : BOKt mt tX2_acts 340 98 b_X2_acts_98 := by
  refine bnop1 ?_
  refine bplain (pc' := 99) rfl dX2_acts_98 rfl (ihP (fun h => nomatch h) rfl) rfl ?_
  refine bplain (pc' := 100) rfl dX2_acts_99 rfl (ihP (fun h => nomatch h) rfl) rfl ?_
  refine bplain (pc' := 101) rfl dX2_acts_100 rfl (ihP (fun h => nomatch h) rfl) rfl ?_
  refine bthr (pc' := 104) rfl dX2_acts_101 rfl (lkf0 q1090 lf_104) (trivial) (ihP (fun h => nomatch h) rfl) rfl ?_
  refine bthr (pc' := 107) rfl dX2_acts_104 rfl (lkf1 (host := "StrideTurns") (by decide) q1114 lf_113) (trivial) (ihP (fun h => nomatch h) rfl) rfl ?_
  refine bplain (pc' := 108) rfl dX2_acts_107 rfl (ihP (fun h => nomatch h) rfl) rfl ?_
  refine bthr (pc' := 111) rfl dX2_acts_108 rfl (lkf1 (host := "StrideTurns") (by decide) q1667 lf_310) (trivial) (ihP (fun h => nomatch h) rfl) rfl ?_
  refine bplain (pc' := 112) rfl dX2_acts_111 rfl (ihP (fun h => nomatch h) rfl) rfl ?_
  refine bplain (pc' := 113) rfl dX2_acts_112 rfl (ihP (fun h => nomatch h) rfl) rfl ?_
  refine bthr (pc' := 116) rfl dX2_acts_113 rfl (lkf1 (host := "StrideTurns") (by decide) q1695 lf_322) (trivial) (ihP (fun h => nomatch h) rfl) rfl ?_
  refine bplain (pc' := 118) rfl dX2_acts_116 rfl (ihP (fun h => nomatch h) rfl) rfl ?_
  refine bplain (pc' := 120) rfl dX2_acts_118 rfl (ihP (fun h => nomatch h) rfl) rfl ?_
  refine bplain (pc' := 121) rfl dX2_acts_120 rfl (ihP (fun h => nomatch h) rfl) rfl ?_
  refine bcall (pc' := 124) rfl dX2_acts_121 rfl (trivial) (lcs (l := q2426) mt_X0_done ⟨by decide, by decide⟩ mok_X0_done rfl ln_531 (Or.inr ⟨"StrideTurns", q2425⟩)) (ihH (fun h => nomatch h) (hokH (all6 (hk1n (⟨xps_x (nm := "java/lang/ArithmeticException") rfl q2395 (List.mem_of_getElem? (i := 26) rfl), trivial⟩)) (hk1n (⟨xps_x (nm := "java/lang/ArithmeticException") rfl q2395 (List.mem_of_getElem? (i := 32) rfl), trivial⟩)) (hk1n (⟨xps_x (nm := "java/lang/ArithmeticException") rfl q2395 (List.mem_of_getElem? (i := 38) rfl), trivial⟩)) (hk1n (⟨xps_x (nm := "java/lang/ArithmeticException") rfl q2395 (List.mem_of_getElem? (i := 43) rfl), trivial⟩)) (hk1n (⟨xps_x (nm := "java/lang/ArithmeticException") rfl q2395 (List.mem_of_getElem? (i := 49) rfl), trivial⟩)) (hk1s (k := 6) (pre := (tableOf [(98, 131, 132, 165)]).take 0) (suf := (tableOf [(98, 131, 132, 165)]).drop 1) (name := "java/lang/ArithmeticException") rfl (trivial) rfl rfl q2395 q935 (by decide) rfl)))) rfl ?_
  refine bcall (pc' := 127) rfl dX2_acts_124 rfl (trivial) (lcv (n := 1) rfl (pvc (lfv mt_X4_cast ⟨by decide, by decide⟩ mok_X4_cast ⟨by decide, by decide⟩ ⟨q2441, ln_532, Or.inl ⟨q2440, Or.inl q2442⟩⟩) (trivial)) (Or.inl (by decide))) (ihH (fun h => nomatch h) (hokH (all6 (hk1n (⟨xps_x (nm := "java/lang/ArithmeticException") rfl q2395 (List.mem_of_getElem? (i := 26) rfl), trivial⟩)) (hk1n (⟨xps_x (nm := "java/lang/ArithmeticException") rfl q2395 (List.mem_of_getElem? (i := 32) rfl), trivial⟩)) (hk1n (⟨xps_x (nm := "java/lang/ArithmeticException") rfl q2395 (List.mem_of_getElem? (i := 38) rfl), trivial⟩)) (hk1n (⟨xps_x (nm := "java/lang/ArithmeticException") rfl q2395 (List.mem_of_getElem? (i := 43) rfl), trivial⟩)) (hk1n (⟨xps_x (nm := "java/lang/ArithmeticException") rfl q2395 (List.mem_of_getElem? (i := 49) rfl), trivial⟩)) (hk1s (k := 6) (pre := (tableOf [(98, 131, 132, 165)]).take 0) (suf := (tableOf [(98, 131, 132, 165)]).drop 1) (name := "java/lang/ArithmeticException") rfl (trivial) rfl rfl q2395 q935 (by decide) rfl)))) rfl ?_
  refine bcall (pc' := 130) rfl dX2_acts_127 rfl (trivial) (lcv (n := 2) rfl (pvc (lfv mt_X2_writes ⟨by decide, by decide⟩ mok_X2_writes ⟨by decide, by decide⟩ ⟨q2448, ln_537, Or.inl ⟨q2447, Or.inl q2449⟩⟩) (trivial)) (Or.inl (by decide))) (ihH (fun h => nomatch h) (hokH (all6 (hk1n (⟨xps_x (nm := "java/lang/ArithmeticException") rfl q2395 (List.mem_of_getElem? (i := 26) rfl), trivial⟩)) (hk1n (⟨xps_x (nm := "java/lang/ArithmeticException") rfl q2395 (List.mem_of_getElem? (i := 32) rfl), trivial⟩)) (hk1n (⟨xps_x (nm := "java/lang/ArithmeticException") rfl q2395 (List.mem_of_getElem? (i := 38) rfl), trivial⟩)) (hk1n (⟨xps_x (nm := "java/lang/ArithmeticException") rfl q2395 (List.mem_of_getElem? (i := 43) rfl), trivial⟩)) (hk1n (⟨xps_x (nm := "java/lang/ArithmeticException") rfl q2395 (List.mem_of_getElem? (i := 49) rfl), trivial⟩)) (hk1s (k := 6) (pre := (tableOf [(98, 131, 132, 165)]).take 0) (suf := (tableOf [(98, 131, 132, 165)]).drop 1) (name := "java/lang/ArithmeticException") rfl (trivial) rfl rfl q2395 q935 (by decide) rfl)))) rfl ?_
  refine bplain (pc' := 131) rfl dX2_acts_130 rfl (ihP (fun h => nomatch h) rfl) rfl ?_
  refine bret (pc' := 132) rfl dX2_acts_131 rfl (Or.inl ⟨rfl, rfl⟩) (ihP (fun h => nomatch h) rfl) rfl ?_
  exact trivial
theorem bf_X2_acts_132 : BOKt mt tX2_acts 340 132 b_X2_acts_132 := by
  refine bplain (pc' := 134) rfl dX2_acts_132 rfl (ihP (fun h => nomatch h) rfl) rfl ?_
  refine bplain (pc' := 135) rfl dX2_acts_134 rfl (ihP (fun h => nomatch h) rfl) rfl ?_
  refine bret (pc' := 136) rfl dX2_acts_135 rfl (Or.inl ⟨rfl, rfl⟩) (ihP (fun h => nomatch h) rfl) rfl ?_
  exact trivial
theorem tf_X2_acts : ∀ x ∈ tb_X2_acts, BOK mt 340 x.1 x.2 := tb_c mt_X2_acts bf_X2_acts_0 (tb_c mt_X2_acts bf_X2_acts_26 (tb_c mt_X2_acts bf_X2_acts_27 (tb_c mt_X2_acts bf_X2_acts_52 (tb_c mt_X2_acts bf_X2_acts_98 (tb_c mt_X2_acts bf_X2_acts_132 (tb_n))))))
theorem bf_X2_goesOn_0 : BOKt mt tX2_goesOn 341 0 b_X2_goesOn_0 := by
  refine bplain (pc' := 1) rfl dX2_goesOn_0 rfl (ihN rfl) rfl ?_
  refine bplain (pc' := 2) rfl dX2_goesOn_1 rfl (ihN rfl) rfl ?_
  refine bthr (pc' := 5) rfl dX2_goesOn_2 rfl (lkf0 q1088 lf_455) (trivial) (ihN rfl) rfl ?_
  refine bplain (pc' := 6) rfl dX2_goesOn_5 rfl (ihN rfl) rfl ?_
  refine bplain (pc' := 7) rfl dX2_goesOn_6 rfl (ihN rfl) rfl ?_
  refine bobj (pc' := 10) rfl dX2_goesOn_7 rfl (⟨lkf0 q1088 lf_455, lkp0 lp_456⟩) (ihN rfl) rfl ?_
  refine bplain (pc' := 11) rfl dX2_goesOn_10 rfl (ihN rfl) rfl ?_
  refine bthr (pc' := 14) rfl dX2_goesOn_11 rfl (lkf0 q1088 lf_455) (trivial) (ihN rfl) rfl ?_
  refine bplain (pc' := 15) rfl dX2_goesOn_14 rfl (ihN rfl) rfl ?_
  refine bjmp (tg := 22) (pc' := 18) rfl (by decide) (by decide) rfl dX2_goesOn_15 rfl (ihN rfl) rfl ?_
  refine bplain (pc' := 19) rfl dX2_goesOn_18 rfl (ihN rfl) rfl ?_
  refine bcall (pc' := 22) rfl dX2_goesOn_19 rfl (trivial) (lcv (n := 0) rfl (pvc (lfv mt_X2_passes ⟨by decide, by decide⟩ mok_X2_passes ⟨by decide, by decide⟩ ⟨q2358, ln_0, Or.inl ⟨q2357, Or.inl q2359⟩⟩) (trivial)) (Or.inl (by decide))) (ihN rfl) rfl ?_
  exact bnop0 rfl (by decide)
theorem bf_X2_goesOn_22 : BOKt mt tX2_goesOn 341 22 b_X2_goesOn_22 := by
  refine bnop1 ?_
  refine bret (pc' := 23) rfl dX2_goesOn_22 rfl (rfl) (ihN rfl) rfl ?_
  exact trivial
theorem tf_X2_goesOn : ∀ x ∈ tb_X2_goesOn, BOK mt 341 x.1 x.2 := tb_c mt_X2_goesOn bf_X2_goesOn_0 (tb_c mt_X2_goesOn bf_X2_goesOn_22 (tb_n))
theorem bf_X2_steps_0 : BOKt mt tX2_steps 342 0 b_X2_steps_0 := by
  refine bplain (pc' := 1) rfl dX2_steps_0 rfl (ihN rfl) rfl ?_
  refine bthr (pc' := 4) rfl dX2_steps_1 rfl (lkf0 q1090 lf_104) (trivial) (ihN rfl) rfl ?_
  refine bthr (pc' := 7) rfl dX2_steps_4 rfl (lkf1 (host := "StrideTurns") (by decide) q1116 lf_116) (trivial) (ihN rfl) rfl ?_
  refine bplain (pc' := 8) rfl dX2_steps_7 rfl (ihN rfl) rfl ?_
  refine bthr (pc' := 11) rfl dX2_steps_8 rfl (lkf0 q1087 lf_457) (trivial) (ihN rfl) rfl ?_
  refine bcall (pc' := 14) rfl dX2_steps_11 rfl (trivial) (lcv (n := 1) rfl (pvc (lfv mt_J20_get ⟨by decide, by decide⟩ mok_J20_get ⟨by decide, by decide⟩ ⟨q1777, ln_338, Or.inl ⟨q2362, Or.inl q1778⟩⟩) (trivial)) (Or.inl (by decide))) (ihN rfl) rfl ?_
  refine bthr (pc' := 17) rfl dX2_steps_14 rfl (lkc (nm := "StrideTurns$Statement") q2363 lg_340 lb_341) (Or.inl rfl) (ihN rfl) rfl ?_
  refine bplain (pc' := 18) rfl dX2_steps_17 rfl (ihN rfl) rfl ?_
  refine bplain (pc' := 19) rfl dX2_steps_18 rfl (ihN rfl) rfl ?_
  refine bplain (pc' := 20) rfl dX2_steps_19 rfl (ihN rfl) rfl ?_
  refine bcall (pc' := 23) rfl dX2_steps_20 rfl (trivial) (lcv (n := 1) rfl (pvc (lfv mt_X2_against ⟨by decide, by decide⟩ mok_X2_against ⟨by decide, by decide⟩ ⟨q2378, ln_530, Or.inl ⟨q2377, Or.inl q2379⟩⟩) (trivial)) (Or.inl (by decide))) (ihN rfl) rfl ?_
  refine bplain (pc' := 24) rfl dX2_steps_23 rfl (ihN rfl) rfl ?_
  refine bplain (pc' := 25) rfl dX2_steps_24 rfl (ihN rfl) rfl ?_
  refine bplain (pc' := 26) rfl dX2_steps_25 rfl (ihN rfl) rfl ?_
  refine bjmp (tg := 35) (pc' := 29) rfl (by decide) (by decide) rfl dX2_steps_26 rfl (ihN rfl) rfl ?_
  refine bplain (pc' := 30) rfl dX2_steps_29 rfl (ihN rfl) rfl ?_
  refine bplain (pc' := 31) rfl dX2_steps_30 rfl (ihN rfl) rfl ?_
  refine bcall (pc' := 34) rfl dX2_steps_31 rfl (trivial) (lcv (n := 1) rfl (pvc (lfv mt_X2_acts ⟨by decide, by decide⟩ mok_X2_acts ⟨by decide, by decide⟩ ⟨q2393, ln_530, Or.inl ⟨q2391, Or.inl qs40⟩⟩) (trivial)) (Or.inl (by decide))) (ihN rfl) rfl ?_
  refine bplain (pc' := 35) rfl dX2_steps_34 rfl (ihN rfl) rfl ?_
  exact bnop0 rfl (by decide)
theorem bf_X2_steps_35 : BOKt mt tX2_steps 342 35 b_X2_steps_35 := by
  refine bplain (pc' := 36) rfl dX2_steps_35 rfl (ihN rfl) rfl ?_
  refine bplain (pc' := 37) rfl dX2_steps_36 rfl (ihN rfl) rfl ?_
  refine bjmp (tg := 50) (pc' := 40) rfl (by decide) (by decide) rfl dX2_steps_37 rfl (ihN rfl) rfl ?_
  refine bplain (pc' := 41) rfl dX2_steps_40 rfl (ihN rfl) rfl ?_
  refine bplain (pc' := 42) rfl dX2_steps_41 rfl (ihN rfl) rfl ?_
  refine bthr (pc' := 45) rfl dX2_steps_42 rfl (lkf1 (host := "StrideTurns") (by decide) q1698 lf_324) (trivial) (ihN rfl) rfl ?_
  refine bcall (pc' := 48) rfl dX2_steps_45 rfl (trivial) (lcv (n := 1) rfl (pvc (lfv mt_X2_goesOn ⟨by decide, by decide⟩ mok_X2_goesOn ⟨by decide, by decide⟩ ⟨q2456, ln_115, Or.inl ⟨q2455, Or.inl q2457⟩⟩) (trivial)) (Or.inl (by decide))) (ihN rfl) rfl ?_
  refine bplain (pc' := 49) rfl dX2_steps_48 rfl (ihN rfl) rfl ?_
  refine bret (pc' := 50) rfl dX2_steps_49 rfl (Or.inr ⟨rfl, rfl⟩) (ihN rfl) rfl ?_
  exact trivial
theorem bf_X2_steps_50 : BOKt mt tX2_steps 342 50 b_X2_steps_50 := by
  refine bplain (pc' := 51) rfl dX2_steps_50 rfl (ihN rfl) rfl ?_
  refine bplain (pc' := 52) rfl dX2_steps_51 rfl (ihN rfl) rfl ?_
  refine bobj (pc' := 55) rfl dX2_steps_52 rfl (⟨lkf0 q1089 lf_461, lkp0 lp_462⟩) (ihN rfl) rfl ?_
  refine bplain (pc' := 56) rfl dX2_steps_55 rfl (ihN rfl) rfl ?_
  refine bthr (pc' := 59) rfl dX2_steps_56 rfl (lkf0 q1090 lf_104) (trivial) (ihN rfl) rfl ?_
  refine bthr (pc' := 62) rfl dX2_steps_59 rfl (lkf1 (host := "StrideTurns") (by decide) q1127 lf_128) (trivial) (ihN rfl) rfl ?_
  refine bplain (pc' := 63) rfl dX2_steps_62 rfl (ihN rfl) rfl ?_
  refine bplain (pc' := 64) rfl dX2_steps_63 rfl (ihN rfl) rfl ?_
  refine bplain (pc' := 65) rfl dX2_steps_64 rfl (ihN rfl) rfl ?_
  refine bplain (pc' := 66) rfl dX2_steps_65 rfl (ihN rfl) rfl ?_
  refine bplain (pc' := 67) rfl dX2_steps_66 rfl (ihN rfl) rfl ?_
  refine bplain (pc' := 68) rfl dX2_steps_67 rfl (ihN rfl) rfl ?_
  refine bplain (pc' := 69) rfl dX2_steps_68 rfl (ihN rfl) rfl ?_
  refine bret (pc' := 70) rfl dX2_steps_69 rfl (Or.inr ⟨rfl, rfl⟩) (ihN rfl) rfl ?_
  exact trivial
theorem tf_X2_steps : ∀ x ∈ tb_X2_steps, BOK mt 342 x.1 x.2 := tb_c mt_X2_steps bf_X2_steps_0 (tb_c mt_X2_steps bf_X2_steps_35 (tb_c mt_X2_steps bf_X2_steps_50 (tb_n)))
theorem bf_X0_steps_0 : BOKt mt tX0_steps 343 0 b_X0_steps_0 := by
  refine bplain (pc' := 1) rfl dX0_steps_0 rfl (ihN rfl) rfl ?_
  refine bplain (pc' := 2) rfl dX0_steps_1 rfl (ihN rfl) rfl ?_
  refine bthr (pc' := 5) rfl dX0_steps_2 rfl (lkf0 q1131 lf_465) (trivial) (ihN rfl) rfl ?_
  refine bplain (pc' := 6) rfl dX0_steps_5 rfl (ihN rfl) rfl ?_
  refine bcall (pc' := 9) rfl dX0_steps_6 rfl (trivial) (lcv (n := 0) rfl (pvc (lfv mt_X2_steps ⟨by decide, by decide⟩ mok_X2_steps ⟨by decide, by decide⟩ ⟨q2374, ln_30, Or.inl ⟨q2373, Or.inl q2375⟩⟩) (trivial)) (Or.inl (by decide))) (ihN rfl) rfl ?_
  refine bjmp (tg := 16) (pc' := 12) rfl (by decide) (by decide) rfl dX0_steps_9 rfl (ihN rfl) rfl ?_
  refine bplain (pc' := 13) rfl dX0_steps_12 rfl (ihN rfl) rfl ?_
  refine bjmp (tg := 17) (pc' := 16) rfl (by decide) (by decide) rfl dX0_steps_13 rfl (ihN rfl) rfl ?_
  exact trivial
theorem bf_X0_steps_16 : BOKt mt tX0_steps 343 16 b_X0_steps_16 := by
  refine bplain (pc' := 17) rfl dX0_steps_16 rfl (ihN rfl) rfl ?_
  exact bnop0 rfl (by decide)
theorem bf_X0_steps_17 : BOKt mt tX0_steps 343 17 b_X0_steps_17 := by
  refine bplain (pc' := 18) rfl dX0_steps_17 rfl (ihN rfl) rfl ?_
  refine bobj (pc' := 21) rfl dX0_steps_18 rfl (⟨lkf0 q1131 lf_465, lkp0 lp_466⟩) (ihN rfl) rfl ?_
  refine bplain (pc' := 22) rfl dX0_steps_21 rfl (ihN rfl) rfl ?_
  refine bcall (pc' := 25) rfl dX0_steps_22 rfl (trivial) (lcv (n := 0) rfl (pvc (lfv mt_X2_isLeft ⟨by decide, by decide⟩ mok_X2_isLeft ⟨by decide, by decide⟩ ⟨q2366, ln_30, Or.inl ⟨q2365, Or.inl q2367⟩⟩) (trivial)) (Or.inl (by decide))) (ihN rfl) rfl ?_
  refine bjmp (tg := 29) (pc' := 28) rfl (by decide) (by decide) rfl dX0_steps_25 rfl (ihN rfl) rfl ?_
  refine bret (pc' := 29) rfl dX0_steps_28 rfl (rfl) (ihN rfl) rfl ?_
  exact trivial
theorem bf_X0_steps_29 : BOKt mt tX0_steps 343 29 b_X0_steps_29 := by
  refine bplain (pc' := 30) rfl dX0_steps_29 rfl (ihN rfl) rfl ?_
  refine bthr (pc' := 33) rfl dX0_steps_30 rfl (lkf0 q1129 lf_133) (trivial) (ihN rfl) rfl ?_
  refine bplain (pc' := 34) rfl dX0_steps_33 rfl (ihN rfl) rfl ?_
  refine bthr (pc' := 37) rfl dX0_steps_34 rfl (lkf0 q1130 lf_463) (trivial) (ihN rfl) rfl ?_
  refine bplain (pc' := 38) rfl dX0_steps_37 rfl (ihN rfl) rfl ?_
  refine bthr (pc' := 41) rfl dX0_steps_38 rfl (lkf1 (host := "StrideTurns") (by decide) q1086 lf_459) (trivial) (ihN rfl) rfl ?_
  refine bplain (pc' := 42) rfl dX0_steps_41 rfl (ihN rfl) rfl ?_
  refine bplain (pc' := 43) rfl dX0_steps_42 rfl (ihN rfl) rfl ?_
  refine bplain (pc' := 44) rfl dX0_steps_43 rfl (ihN rfl) rfl ?_
  refine bthr (pc' := 47) rfl dX0_steps_44 rfl (lkf0 q1130 lf_463) (trivial) (ihN rfl) rfl ?_
  refine bplain (pc' := 48) rfl dX0_steps_47 rfl (ihN rfl) rfl ?_
  refine bplain (pc' := 49) rfl dX0_steps_48 rfl (ihN rfl) rfl ?_
  refine bobj (pc' := 52) rfl dX0_steps_49 rfl (⟨lkf0 q1130 lf_463, lkp0 lp_464⟩) (ihN rfl) rfl ?_
  refine bret (pc' := 53) rfl dX0_steps_52 rfl (rfl) (ihN rfl) rfl ?_
  exact trivial
theorem tf_X0_steps : ∀ x ∈ tb_X0_steps, BOK mt 343 x.1 x.2 := tb_c mt_X0_steps bf_X0_steps_0 (tb_c mt_X0_steps bf_X0_steps_16 (tb_c mt_X0_steps bf_X0_steps_17 (tb_c mt_X0_steps bf_X0_steps_29 (tb_n))))
theorem bf_X0_runs_0 : BOKt mt tX0_runs 344 0 b_X0_runs_0 := by
  refine bplain (pc' := 1) rfl dX0_runs_0 rfl (ihN rfl) rfl ?_
  refine bplain (pc' := 2) rfl dX0_runs_1 rfl (ihN rfl) rfl ?_
  refine bcall (pc' := 5) rfl dX0_runs_2 rfl (trivial) (lcv (n := 1) rfl (pvc (lfv mt_X0_begins ⟨by decide, by decide⟩ mok_X0_begins ⟨by decide, by decide⟩ ⟨q2351, ln_92, Or.inl ⟨q2349, Or.inl qs38⟩⟩) (trivial)) (Or.inl (by decide))) (ihN rfl) rfl ?_
  refine bplain (pc' := 6) rfl dX0_runs_5 rfl (ihN rfl) rfl ?_
  refine bplain (pc' := 7) rfl dX0_runs_6 rfl (ihN rfl) rfl ?_
  exact bnop0 rfl (by decide)
theorem bf_X0_runs_7 : BOKt mt tX0_runs 344 7 b_X0_runs_7 := by
  refine bplain (pc' := 8) rfl dX0_runs_7 rfl (ihN rfl) rfl ?_
  refine bplain (pc' := 9) rfl dX0_runs_8 rfl (ihN rfl) rfl ?_
  refine bthr (pc' := 12) rfl dX0_runs_9 rfl (lkf0 q1118 lf_270) (trivial) (ihN rfl) rfl ?_
  refine bjmp (tg := 46) (pc' := 15) rfl (by decide) (by decide) rfl dX0_runs_12 rfl (ihN rfl) rfl ?_
  exact bnop0 rfl (by decide)
theorem bf_X0_runs_15 : BOKt mt tX0_runs 344 15 b_X0_runs_15 := by
  refine bplain (pc' := 16) rfl dX0_runs_15 rfl (ihN rfl) rfl ?_
  refine bthr (pc' := 19) rfl dX0_runs_16 rfl (lkf0 q1128 lf_131) (trivial) (ihN rfl) rfl ?_
  refine bplain (pc' := 20) rfl dX0_runs_19 rfl (ihN rfl) rfl ?_
  refine bplain (pc' := 21) rfl dX0_runs_20 rfl (ihN rfl) rfl ?_
  refine bcall (pc' := 24) rfl dX0_runs_21 rfl (trivial) (lcv (n := 0) rfl (pvc (lfv mt_X2_isLeft ⟨by decide, by decide⟩ mok_X2_isLeft ⟨by decide, by decide⟩ ⟨q2366, ln_30, Or.inl ⟨q2365, Or.inl q2367⟩⟩) (trivial)) (Or.inl (by decide))) (ihN rfl) rfl ?_
  refine bjmp (tg := 40) (pc' := 27) rfl (by decide) (by decide) rfl dX0_runs_24 rfl (ihN rfl) rfl ?_
  refine bplain (pc' := 28) rfl dX0_runs_27 rfl (ihN rfl) rfl ?_
  refine bplain (pc' := 29) rfl dX0_runs_28 rfl (ihN rfl) rfl ?_
  refine bthr (pc' := 32) rfl dX0_runs_29 rfl (lkf0 q1128 lf_131) (trivial) (ihN rfl) rfl ?_
  refine bplain (pc' := 33) rfl dX0_runs_32 rfl (ihN rfl) rfl ?_
  refine bplain (pc' := 34) rfl dX0_runs_33 rfl (ihN rfl) rfl ?_
  refine bcall (pc' := 37) rfl dX0_runs_34 rfl (trivial) (lcv (n := 1) rfl (pvc (lfv mt_X0_steps ⟨by decide, by decide⟩ mok_X0_steps ⟨by decide, by decide⟩ ⟨q2371, ln_538, Or.inl ⟨q2369, Or.inl qs39⟩⟩) (trivial)) (Or.inl (by decide))) (ihN rfl) rfl ?_
  refine bjmp (tg := 15) (pc' := 40) rfl (by decide) (by decide) rfl dX0_runs_37 rfl (ihN rfl) rfl ?_
  exact trivial
theorem bf_X0_runs_40 : BOKt mt tX0_runs 344 40 b_X0_runs_40 := by
  refine bplain (pc' := 43) rfl dX0_runs_40 rfl (ihN rfl) rfl ?_
  refine bjmp (tg := 7) (pc' := 46) rfl (by decide) (by decide) rfl dX0_runs_43 rfl (ihN rfl) rfl ?_
  exact trivial
theorem bf_X0_runs_46 : BOKt mt tX0_runs 344 46 b_X0_runs_46 := by
  refine bret (pc' := 47) rfl dX0_runs_46 rfl (rfl) (ihN rfl) rfl ?_
  exact trivial
theorem tf_X0_runs : ∀ x ∈ tb_X0_runs, BOK mt 344 x.1 x.2 := tb_c mt_X0_runs bf_X0_runs_0 (tb_c mt_X0_runs bf_X0_runs_7 (tb_c mt_X0_runs bf_X0_runs_15 (tb_c mt_X0_runs bf_X0_runs_40 (tb_c mt_X0_runs bf_X0_runs_46 (tb_n)))))
theorem bf_X0_tellsRun_0 : BOKt mt tX0_tellsRun 345 0 b_X0_tellsRun_0 := by
  refine bplain (pc' := 1) rfl dX0_tellsRun_0 rfl (ihN rfl) rfl ?_
  refine bplain (pc' := 2) rfl dX0_tellsRun_1 rfl (ihN rfl) rfl ?_
  exact bnop0 rfl (by decide)
theorem bf_X0_tellsRun_2 : BOKt mt tX0_tellsRun 345 2 b_X0_tellsRun_2 := by
  refine bplain (pc' := 3) rfl dX0_tellsRun_2 rfl (ihN rfl) rfl ?_
  refine bplain (pc' := 4) rfl dX0_tellsRun_3 rfl (ihN rfl) rfl ?_
  refine bjmp (tg := 25) (pc' := 7) rfl (by decide) (by decide) rfl dX0_tellsRun_4 rfl (ihN rfl) rfl ?_
  refine bplain (pc' := 8) rfl dX0_tellsRun_7 rfl (ihN rfl) rfl ?_
  refine bthr (pc' := 11) rfl dX0_tellsRun_8 rfl (lkf0 q1132 lf_135) (trivial) (ihN rfl) rfl ?_
  refine bplain (pc' := 12) rfl dX0_tellsRun_11 rfl (ihN rfl) rfl ?_
  refine bplain (pc' := 13) rfl dX0_tellsRun_12 rfl (ihN rfl) rfl ?_
  refine bthr (pc' := 16) rfl dX0_tellsRun_13 rfl (lkf0 q1126 lf_128) (trivial) (ihN rfl) rfl ?_
  refine bplain (pc' := 17) rfl dX0_tellsRun_16 rfl (ihN rfl) rfl ?_
  refine bplain (pc' := 18) rfl dX0_tellsRun_17 rfl (ihN rfl) rfl ?_
  refine bplain (pc' := 19) rfl dX0_tellsRun_18 rfl (ihN rfl) rfl ?_
  refine bplain (pc' := 22) rfl dX0_tellsRun_19 rfl (ihN rfl) rfl ?_
  refine bjmp (tg := 2) (pc' := 25) rfl (by decide) (by decide) rfl dX0_tellsRun_22 rfl (ihN rfl) rfl ?_
  exact trivial
theorem bf_X0_tellsRun_25 : BOKt mt tX0_tellsRun 345 25 b_X0_tellsRun_25 := by
  refine bplain (pc' := 26) rfl dX0_tellsRun_25 rfl (ihN rfl) rfl ?_
  refine bplain (pc' := 27) rfl dX0_tellsRun_26 rfl (ihN rfl) rfl ?_
  exact bnop0 rfl (by decide)
theorem bf_X0_tellsRun_27 : BOKt mt tX0_tellsRun 345 27 b_X0_tellsRun_27 := by
  refine bplain (pc' := 28) rfl dX0_tellsRun_27 rfl (ihN rfl) rfl ?_
  refine bplain (pc' := 30) rfl dX0_tellsRun_28 rfl (ihN rfl) rfl ?_
  refine bjmp (tg := 51) (pc' := 33) rfl (by decide) (by decide) rfl dX0_tellsRun_30 rfl (ihN rfl) rfl ?_
  refine bplain (pc' := 34) rfl dX0_tellsRun_33 rfl (ihN rfl) rfl ?_
  refine bthr (pc' := 37) rfl dX0_tellsRun_34 rfl (lkf0 q1133 lf_137) (trivial) (ihN rfl) rfl ?_
  refine bplain (pc' := 38) rfl dX0_tellsRun_37 rfl (ihN rfl) rfl ?_
  refine bplain (pc' := 39) rfl dX0_tellsRun_38 rfl (ihN rfl) rfl ?_
  refine bthr (pc' := 42) rfl dX0_tellsRun_39 rfl (lkf0 q1129 lf_133) (trivial) (ihN rfl) rfl ?_
  refine bplain (pc' := 43) rfl dX0_tellsRun_42 rfl (ihN rfl) rfl ?_
  refine bplain (pc' := 44) rfl dX0_tellsRun_43 rfl (ihN rfl) rfl ?_
  refine bplain (pc' := 45) rfl dX0_tellsRun_44 rfl (ihN rfl) rfl ?_
  refine bplain (pc' := 48) rfl dX0_tellsRun_45 rfl (ihN rfl) rfl ?_
  refine bjmp (tg := 27) (pc' := 51) rfl (by decide) (by decide) rfl dX0_tellsRun_48 rfl (ihN rfl) rfl ?_
  exact trivial
theorem bf_X0_tellsRun_51 : BOKt mt tX0_tellsRun 345 51 b_X0_tellsRun_51 := by
  refine bplain (pc' := 52) rfl dX0_tellsRun_51 rfl (ihN rfl) rfl ?_
  refine bplain (pc' := 53) rfl dX0_tellsRun_52 rfl (ihN rfl) rfl ?_
  refine bthr (pc' := 56) rfl dX0_tellsRun_53 rfl (lkf0 q1130 lf_463) (trivial) (ihN rfl) rfl ?_
  refine bobj (pc' := 59) rfl dX0_tellsRun_56 rfl (⟨lkf0 q1134 lf_539, lkp0 lp_540⟩) (ihN rfl) rfl ?_
  refine bplain (pc' := 60) rfl dX0_tellsRun_59 rfl (ihN rfl) rfl ?_
  refine bplain (pc' := 61) rfl dX0_tellsRun_60 rfl (ihN rfl) rfl ?_
  refine bthr (pc' := 64) rfl dX0_tellsRun_61 rfl (lkf0 q1131 lf_465) (trivial) (ihN rfl) rfl ?_
  refine bobj (pc' := 67) rfl dX0_tellsRun_64 rfl (⟨lkf0 q1135 lf_541, lkp0 lp_542⟩) (ihN rfl) rfl ?_
  refine bplain (pc' := 68) rfl dX0_tellsRun_67 rfl (ihN rfl) rfl ?_
  refine bthr (pc' := 71) rfl dX0_tellsRun_68 rfl (lkf0 q1131 lf_465) (trivial) (ihN rfl) rfl ?_
  refine bret (pc' := 72) rfl dX0_tellsRun_71 rfl (Or.inl ⟨rfl, rfl⟩) (ihN rfl) rfl ?_
  exact trivial
theorem tf_X0_tellsRun : ∀ x ∈ tb_X0_tellsRun, BOK mt 345 x.1 x.2 := tb_c mt_X0_tellsRun bf_X0_tellsRun_0 (tb_c mt_X0_tellsRun bf_X0_tellsRun_2 (tb_c mt_X0_tellsRun bf_X0_tellsRun_25 (tb_c mt_X0_tellsRun bf_X0_tellsRun_27 (tb_c mt_X0_tellsRun bf_X0_tellsRun_51 (tb_n)))))
theorem bf_X0_run_0 : BOKt mt tX0_run 346 0 b_X0_run_0 := by
  refine bplain (pc' := 1) rfl dX0_run_0 rfl (ihN rfl) rfl ?_
  refine bcall (pc' := 4) rfl dX0_run_1 rfl (trivial) (lcv (n := 0) rfl (pvc (lfv mt_X0_runs ⟨by decide, by decide⟩ mok_X0_runs ⟨by decide, by decide⟩ ⟨q2347, ln_0, Or.inl ⟨q2345, Or.inl qs37⟩⟩) (trivial)) (Or.inl (by decide))) (ihN rfl) rfl ?_
  refine bplain (pc' := 5) rfl dX0_run_4 rfl (ihN rfl) rfl ?_
  refine bcall (pc' := 8) rfl dX0_run_5 rfl (trivial) (lcv (n := 0) rfl (pvc (lfv mt_X0_tellsRun ⟨by decide, by decide⟩ mok_X0_tellsRun ⟨by decide, by decide⟩ ⟨q2461, ln_40, Or.inl ⟨q2459, Or.inl qs43⟩⟩) (trivial)) (Or.inl (by decide))) (ihN rfl) rfl ?_
  refine bret (pc' := 9) rfl dX0_run_8 rfl (Or.inl ⟨rfl, rfl⟩) (ihN rfl) rfl ?_
  exact trivial
theorem tf_X0_run : ∀ x ∈ tb_X0_run, BOK mt 346 x.1 x.2 := tb_c mt_X0_run bf_X0_run_0 (tb_n)
theorem bf_X3_firstFrom_0 : BOKt mt tX3_firstFrom 347 0 b_X3_firstFrom_0 := by
  refine bplain (pc' := 1) rfl dX3_firstFrom_0 rfl (ihN rfl) rfl ?_
  refine bplain (pc' := 2) rfl dX3_firstFrom_1 rfl (ihN rfl) rfl ?_
  refine bplain (pc' := 3) rfl dX3_firstFrom_2 rfl (ihN rfl) rfl ?_
  refine bthr (pc' := 6) rfl dX3_firstFrom_3 rfl (lkf0 q2604 lf_334) (trivial) (ihN rfl) rfl ?_
  refine bplain (pc' := 7) rfl dX3_firstFrom_6 rfl (ihN rfl) rfl ?_
  refine bplain (pc' := 8) rfl dX3_firstFrom_7 rfl (ihN rfl) rfl ?_
  refine bplain (pc' := 10) rfl dX3_firstFrom_8 rfl (ihN rfl) rfl ?_
  exact bnop0 rfl (by decide)
theorem bf_X3_firstFrom_10 : BOKt mt tX3_firstFrom 347 10 b_X3_firstFrom_10 := by
  refine bplain (pc' := 12) rfl dX3_firstFrom_10 rfl (ihN rfl) rfl ?_
  refine bplain (pc' := 13) rfl dX3_firstFrom_12 rfl (ihN rfl) rfl ?_
  refine bjmp (tg := 42) (pc' := 16) rfl (by decide) (by decide) rfl dX3_firstFrom_13 rfl (ihN rfl) rfl ?_
  refine bplain (pc' := 17) rfl dX3_firstFrom_16 rfl (ihN rfl) rfl ?_
  refine bplain (pc' := 19) rfl dX3_firstFrom_17 rfl (ihN rfl) rfl ?_
  refine bplain (pc' := 20) rfl dX3_firstFrom_19 rfl (ihN rfl) rfl ?_
  refine bcall (pc' := 23) rfl dX3_firstFrom_20 rfl (trivial) (lcv (n := 2) rfl (pvc (lfv mt_X3_isDone ⟨by decide, by decide⟩ mok_X3_isDone ⟨by decide, by decide⟩ ⟨q2865, ln_339, Or.inl ⟨q2863, Or.inl qs74⟩⟩) (trivial)) (Or.inl (by decide))) (ihN rfl) rfl ?_
  refine bjmp (tg := 34) (pc' := 26) rfl (by decide) (by decide) rfl dX3_firstFrom_23 rfl (ihN rfl) rfl ?_
  refine bplain (pc' := 28) rfl dX3_firstFrom_26 rfl (ihN rfl) rfl ?_
  refine bplain (pc' := 30) rfl dX3_firstFrom_28 rfl (ihN rfl) rfl ?_
  refine bplain (pc' := 31) rfl dX3_firstFrom_30 rfl (ihN rfl) rfl ?_
  refine bjmp (tg := 35) (pc' := 34) rfl (by decide) (by decide) rfl dX3_firstFrom_31 rfl (ihN rfl) rfl ?_
  exact trivial
theorem bf_X3_firstFrom_34 : BOKt mt tX3_firstFrom 347 34 b_X3_firstFrom_34 := by
  refine bplain (pc' := 35) rfl dX3_firstFrom_34 rfl (ihN rfl) rfl ?_
  exact bnop0 rfl (by decide)
theorem bf_X3_firstFrom_35 : BOKt mt tX3_firstFrom 347 35 b_X3_firstFrom_35 := by
  refine bnop1 ?_
  refine bplain (pc' := 36) rfl dX3_firstFrom_35 rfl (ihN rfl) rfl ?_
  refine bplain (pc' := 39) rfl dX3_firstFrom_36 rfl (ihN rfl) rfl ?_
  refine bjmp (tg := 10) (pc' := 42) rfl (by decide) (by decide) rfl dX3_firstFrom_39 rfl (ihN rfl) rfl ?_
  exact trivial
theorem bf_X3_firstFrom_42 : BOKt mt tX3_firstFrom 347 42 b_X3_firstFrom_42 := by
  refine bplain (pc' := 43) rfl dX3_firstFrom_42 rfl (ihN rfl) rfl ?_
  refine bret (pc' := 44) rfl dX3_firstFrom_43 rfl (Or.inl ⟨rfl, rfl⟩) (ihN rfl) rfl ?_
  exact trivial
theorem tf_X3_firstFrom : ∀ x ∈ tb_X3_firstFrom, BOK mt 347 x.1 x.2 := tb_c mt_X3_firstFrom bf_X3_firstFrom_0 (tb_c mt_X3_firstFrom bf_X3_firstFrom_10 (tb_c mt_X3_firstFrom bf_X3_firstFrom_34 (tb_c mt_X3_firstFrom bf_X3_firstFrom_35 (tb_c mt_X3_firstFrom bf_X3_firstFrom_42 (tb_n)))))
theorem bf_X3_begins_0 : BOKt mt tX3_begins 348 0 b_X3_begins_0 := by
  refine bplain (pc' := 1) rfl dX3_begins_0 rfl (ihN rfl) rfl ?_
  refine bplain (pc' := 2) rfl dX3_begins_1 rfl (ihN rfl) rfl ?_
  refine bobj (pc' := 5) rfl dX3_begins_2 rfl (⟨lkf0 q2631 lf_543, lkp0 lp_544⟩) (ihN rfl) rfl ?_
  refine bplain (pc' := 6) rfl dX3_begins_5 rfl (ihN rfl) rfl ?_
  refine bplain (pc' := 7) rfl dX3_begins_6 rfl (ihN rfl) rfl ?_
  refine bobj (pc' := 10) rfl dX3_begins_7 rfl (⟨lkf0 q2634 lf_545, lkp0 lp_546⟩) (ihN rfl) rfl ?_
  refine bplain (pc' := 11) rfl dX3_begins_10 rfl (ihN rfl) rfl ?_
  refine bplain (pc' := 12) rfl dX3_begins_11 rfl (ihN rfl) rfl ?_
  exact bnop0 rfl (by decide)
theorem bf_X3_begins_12 : BOKt mt tX3_begins 348 12 b_X3_begins_12 := by
  refine bplain (pc' := 13) rfl dX3_begins_12 rfl (ihN rfl) rfl ?_
  refine bplain (pc' := 14) rfl dX3_begins_13 rfl (ihN rfl) rfl ?_
  refine bjmp (tg := 30) (pc' := 17) rfl (by decide) (by decide) rfl dX3_begins_14 rfl (ihN rfl) rfl ?_
  refine bplain (pc' := 18) rfl dX3_begins_17 rfl (ihN rfl) rfl ?_
  refine bthr (pc' := 21) rfl dX3_begins_18 rfl (lkf0 q2632 lf_191) (trivial) (ihN rfl) rfl ?_
  refine bplain (pc' := 22) rfl dX3_begins_21 rfl (ihN rfl) rfl ?_
  refine bplain (pc' := 23) rfl dX3_begins_22 rfl (ihN rfl) rfl ?_
  refine bplain (pc' := 24) rfl dX3_begins_23 rfl (ihN rfl) rfl ?_
  refine bplain (pc' := 27) rfl dX3_begins_24 rfl (ihN rfl) rfl ?_
  refine bjmp (tg := 12) (pc' := 30) rfl (by decide) (by decide) rfl dX3_begins_27 rfl (ihN rfl) rfl ?_
  exact trivial
theorem bf_X3_begins_30 : BOKt mt tX3_begins 348 30 b_X3_begins_30 := by
  refine bplain (pc' := 31) rfl dX3_begins_30 rfl (ihN rfl) rfl ?_
  refine bplain (pc' := 32) rfl dX3_begins_31 rfl (ihN rfl) rfl ?_
  exact bnop0 rfl (by decide)
theorem bf_X3_begins_32 : BOKt mt tX3_begins 348 32 b_X3_begins_32 := by
  refine bplain (pc' := 33) rfl dX3_begins_32 rfl (ihN rfl) rfl ?_
  refine bplain (pc' := 36) rfl dX3_begins_33 rfl (ihN rfl) rfl ?_
  refine bjmp (tg := 64) (pc' := 39) rfl (by decide) (by decide) rfl dX3_begins_36 rfl (ihN rfl) rfl ?_
  refine bplain (pc' := 40) rfl dX3_begins_39 rfl (ihN rfl) rfl ?_
  refine bthr (pc' := 43) rfl dX3_begins_40 rfl (lkf0 q2600 lf_151) (trivial) (ihN rfl) rfl ?_
  refine bplain (pc' := 44) rfl dX3_begins_43 rfl (ihN rfl) rfl ?_
  refine bplain (pc' := 45) rfl dX3_begins_44 rfl (ihN rfl) rfl ?_
  refine bplain (pc' := 46) rfl dX3_begins_45 rfl (ihN rfl) rfl ?_
  refine bplain (pc' := 47) rfl dX3_begins_46 rfl (ihN rfl) rfl ?_
  refine bthr (pc' := 50) rfl dX3_begins_47 rfl (lkf0 q2627 lf_185) (trivial) (ihN rfl) rfl ?_
  refine bplain (pc' := 51) rfl dX3_begins_50 rfl (ihN rfl) rfl ?_
  refine bplain (pc' := 52) rfl dX3_begins_51 rfl (ihN rfl) rfl ?_
  refine bthr (pc' := 55) rfl dX3_begins_52 rfl (lkf0 q2599 lf_149) (trivial) (ihN rfl) rfl ?_
  refine bplain (pc' := 56) rfl dX3_begins_55 rfl (ihN rfl) rfl ?_
  refine bplain (pc' := 57) rfl dX3_begins_56 rfl (ihN rfl) rfl ?_
  refine bplain (pc' := 58) rfl dX3_begins_57 rfl (ihN rfl) rfl ?_
  refine bplain (pc' := 61) rfl dX3_begins_58 rfl (ihN rfl) rfl ?_
  refine bjmp (tg := 32) (pc' := 64) rfl (by decide) (by decide) rfl dX3_begins_61 rfl (ihN rfl) rfl ?_
  exact trivial
theorem bf_X3_begins_64 : BOKt mt tX3_begins 348 64 b_X3_begins_64 := by
  refine bplain (pc' := 65) rfl dX3_begins_64 rfl (ihN rfl) rfl ?_
  refine bplain (pc' := 66) rfl dX3_begins_65 rfl (ihN rfl) rfl ?_
  exact bnop0 rfl (by decide)
theorem bf_X3_begins_66 : BOKt mt tX3_begins 348 66 b_X3_begins_66 := by
  refine bplain (pc' := 67) rfl dX3_begins_66 rfl (ihN rfl) rfl ?_
  refine bplain (pc' := 70) rfl dX3_begins_67 rfl (ihN rfl) rfl ?_
  refine bjmp (tg := 86) (pc' := 73) rfl (by decide) (by decide) rfl dX3_begins_70 rfl (ihN rfl) rfl ?_
  refine bplain (pc' := 74) rfl dX3_begins_73 rfl (ihN rfl) rfl ?_
  refine bthr (pc' := 77) rfl dX3_begins_74 rfl (lkf0 q2629 lf_189) (trivial) (ihN rfl) rfl ?_
  refine bplain (pc' := 78) rfl dX3_begins_77 rfl (ihN rfl) rfl ?_
  refine bplain (pc' := 79) rfl dX3_begins_78 rfl (ihN rfl) rfl ?_
  refine bplain (pc' := 80) rfl dX3_begins_79 rfl (ihN rfl) rfl ?_
  refine bplain (pc' := 83) rfl dX3_begins_80 rfl (ihN rfl) rfl ?_
  refine bjmp (tg := 66) (pc' := 86) rfl (by decide) (by decide) rfl dX3_begins_83 rfl (ihN rfl) rfl ?_
  exact trivial
theorem bf_X3_begins_86 : BOKt mt tX3_begins 348 86 b_X3_begins_86 := by
  refine bplain (pc' := 87) rfl dX3_begins_86 rfl (ihN rfl) rfl ?_
  refine bplain (pc' := 88) rfl dX3_begins_87 rfl (ihN rfl) rfl ?_
  exact bnop0 rfl (by decide)
theorem bf_X3_begins_88 : BOKt mt tX3_begins 348 88 b_X3_begins_88 := by
  refine bplain (pc' := 89) rfl dX3_begins_88 rfl (ihN rfl) rfl ?_
  refine bplain (pc' := 90) rfl dX3_begins_89 rfl (ihN rfl) rfl ?_
  refine bthr (pc' := 93) rfl dX3_begins_90 rfl (lkf0 q2603 lf_274) (trivial) (ihN rfl) rfl ?_
  refine bjmp (tg := 114) (pc' := 96) rfl (by decide) (by decide) rfl dX3_begins_93 rfl (ihN rfl) rfl ?_
  refine bplain (pc' := 97) rfl dX3_begins_96 rfl (ihN rfl) rfl ?_
  refine bthr (pc' := 100) rfl dX3_begins_97 rfl (lkf0 q2637 lf_195) (trivial) (ihN rfl) rfl ?_
  refine bplain (pc' := 101) rfl dX3_begins_100 rfl (ihN rfl) rfl ?_
  refine bplain (pc' := 102) rfl dX3_begins_101 rfl (ihN rfl) rfl ?_
  refine bplain (pc' := 103) rfl dX3_begins_102 rfl (ihN rfl) rfl ?_
  refine bplain (pc' := 104) rfl dX3_begins_103 rfl (ihN rfl) rfl ?_
  refine bcall (pc' := 107) rfl dX3_begins_104 rfl (trivial) (lcv (n := 2) rfl (pvc (lfv mt_X3_firstFrom ⟨by decide, by decide⟩ mok_X3_firstFrom ⟨by decide, by decide⟩ ⟨q3067, ln_252, Or.inl ⟨q3065, Or.inl qs110⟩⟩) (trivial)) (Or.inl (by decide))) (ihN rfl) rfl ?_
  refine bplain (pc' := 108) rfl dX3_begins_107 rfl (ihN rfl) rfl ?_
  refine bplain (pc' := 111) rfl dX3_begins_108 rfl (ihN rfl) rfl ?_
  refine bjmp (tg := 88) (pc' := 114) rfl (by decide) (by decide) rfl dX3_begins_111 rfl (ihN rfl) rfl ?_
  exact trivial
theorem bf_X3_begins_114 : BOKt mt tX3_begins 348 114 b_X3_begins_114 := by
  refine bret (pc' := 115) rfl dX3_begins_114 rfl (rfl) (ihN rfl) rfl ?_
  exact trivial
theorem tf_X3_begins : ∀ x ∈ tb_X3_begins, BOK mt 348 x.1 x.2 := tb_c mt_X3_begins bf_X3_begins_0 (tb_c mt_X3_begins bf_X3_begins_12 (tb_c mt_X3_begins bf_X3_begins_30 (tb_c mt_X3_begins bf_X3_begins_32 (tb_c mt_X3_begins bf_X3_begins_64 (tb_c mt_X3_begins bf_X3_begins_66 (tb_c mt_X3_begins bf_X3_begins_86 (tb_c mt_X3_begins bf_X3_begins_88 (tb_c mt_X3_begins bf_X3_begins_114 (tb_n)))))))))
theorem bf_X3_lacksPlace_0 : BOKt mt tX3_lacksPlace 349 0 b_X3_lacksPlace_0 := by
  refine bplain (pc' := 1) rfl dX3_lacksPlace_0 rfl (ihN rfl) rfl ?_
  refine bthr (pc' := 4) rfl dX3_lacksPlace_1 rfl (lkf0 q2610 lf_165) (trivial) (ihN rfl) rfl ?_
  refine bplain (pc' := 5) rfl dX3_lacksPlace_4 rfl (ihN rfl) rfl ?_
  refine bplain (pc' := 6) rfl dX3_lacksPlace_5 rfl (ihN rfl) rfl ?_
  refine bplain (pc' := 8) rfl dX3_lacksPlace_6 rfl (ihN rfl) rfl ?_
  refine bplain (pc' := 9) rfl dX3_lacksPlace_8 rfl (ihN rfl) rfl ?_
  refine bthr (pc' := 12) rfl dX3_lacksPlace_9 rfl (lkf0 q2597 lf_145) (trivial) (ihN rfl) rfl ?_
  refine bplain (pc' := 14) rfl dX3_lacksPlace_12 rfl (ihN rfl) rfl ?_
  refine bplain (pc' := 15) rfl dX3_lacksPlace_14 rfl (ihN rfl) rfl ?_
  refine bcall (pc' := 18) rfl dX3_lacksPlace_15 rfl (trivial) (lcs (l := q2857) mt_X3_isNumbers ⟨by decide, by decide⟩ mok_X3_isNumbers rfl ln_222 (Or.inl q2856)) (ihN rfl) rfl ?_
  refine bjmp (tg := 25) (pc' := 21) rfl (by decide) (by decide) rfl dX3_lacksPlace_18 rfl (ihN rfl) rfl ?_
  refine bplain (pc' := 22) rfl dX3_lacksPlace_21 rfl (ihN rfl) rfl ?_
  refine bjmp (tg := 53) (pc' := 25) rfl (by decide) (by decide) rfl dX3_lacksPlace_22 rfl (ihN rfl) rfl ?_
  exact trivial
theorem bf_X3_lacksPlace_25 : BOKt mt tX3_lacksPlace 349 25 b_X3_lacksPlace_25 := by
  refine bplain (pc' := 26) rfl dX3_lacksPlace_25 rfl (ihN rfl) rfl ?_
  refine bplain (pc' := 27) rfl dX3_lacksPlace_26 rfl (ihN rfl) rfl ?_
  refine bplain (pc' := 28) rfl dX3_lacksPlace_27 rfl (ihN rfl) rfl ?_
  refine bplain (pc' := 29) rfl dX3_lacksPlace_28 rfl (ihN rfl) rfl ?_
  refine bcall (pc' := 32) rfl dX3_lacksPlace_29 rfl (trivial) (lcv (n := 3) rfl (pvc (lfv mt_X3_placeOf ⟨by decide, by decide⟩ mok_X3_placeOf ⟨by decide, by decide⟩ ⟨q2893, ln_255, Or.inl ⟨q2891, Or.inl qs79⟩⟩) (trivial)) (Or.inl (by decide))) (ihN rfl) rfl ?_
  refine bplain (pc' := 33) rfl dX3_lacksPlace_32 rfl (ihN rfl) rfl ?_
  refine bplain (pc' := 34) rfl dX3_lacksPlace_33 rfl (ihN rfl) rfl ?_
  refine bthr (pc' := 37) rfl dX3_lacksPlace_34 rfl (lkf0 q2598 lf_147) (trivial) (ihN rfl) rfl ?_
  refine bplain (pc' := 39) rfl dX3_lacksPlace_37 rfl (ihN rfl) rfl ?_
  refine bplain (pc' := 40) rfl dX3_lacksPlace_39 rfl (ihN rfl) rfl ?_
  refine bplain (pc' := 41) rfl dX3_lacksPlace_40 rfl (ihN rfl) rfl ?_
  refine bplain (pc' := 42) rfl dX3_lacksPlace_41 rfl (ihN rfl) rfl ?_
  refine bcall (pc' := 45) rfl dX3_lacksPlace_42 rfl (trivial) (lcs (l := q2747) mt_X3_in ⟨by decide, by decide⟩ mok_X3_in rfl ln_226 (Or.inl q2746)) (ihN rfl) rfl ?_
  refine bjmp (tg := 52) (pc' := 48) rfl (by decide) (by decide) rfl dX3_lacksPlace_45 rfl (ihN rfl) rfl ?_
  refine bplain (pc' := 49) rfl dX3_lacksPlace_48 rfl (ihN rfl) rfl ?_
  refine bjmp (tg := 53) (pc' := 52) rfl (by decide) (by decide) rfl dX3_lacksPlace_49 rfl (ihN rfl) rfl ?_
  exact trivial
theorem bf_X3_lacksPlace_52 : BOKt mt tX3_lacksPlace 349 52 b_X3_lacksPlace_52 := by
  refine bplain (pc' := 53) rfl dX3_lacksPlace_52 rfl (ihN rfl) rfl ?_
  exact bnop0 rfl (by decide)
theorem bf_X3_lacksPlace_53 : BOKt mt tX3_lacksPlace 349 53 b_X3_lacksPlace_53 := by
  refine bnop1 ?_
  refine bret (pc' := 54) rfl dX3_lacksPlace_53 rfl (Or.inl ⟨rfl, rfl⟩) (ihN rfl) rfl ?_
  exact trivial
theorem tf_X3_lacksPlace : ∀ x ∈ tb_X3_lacksPlace, BOK mt 349 x.1 x.2 := tb_c mt_X3_lacksPlace bf_X3_lacksPlace_0 (tb_c mt_X3_lacksPlace bf_X3_lacksPlace_25 (tb_c mt_X3_lacksPlace bf_X3_lacksPlace_52 (tb_c mt_X3_lacksPlace bf_X3_lacksPlace_53 (tb_n))))
theorem bf_X3_read_0 : BOKt mt tX3_read 350 0 b_X3_read_0 := by
  refine bplain (pc' := 1) rfl dX3_read_0 rfl (ihN rfl) rfl ?_
  refine bplain (pc' := 2) rfl dX3_read_1 rfl (ihN rfl) rfl ?_
  refine bcall (pc' := 5) rfl dX3_read_2 rfl (trivial) (lcv (n := 1) rfl (pvc (lfv mt_X3_isLooked ⟨by decide, by decide⟩ mok_X3_isLooked ⟨by decide, by decide⟩ ⟨q2929, ln_222, Or.inl ⟨q2927, Or.inl qs86⟩⟩) (trivial)) (Or.inl (by decide))) (ihN rfl) rfl ?_
  refine bjmp (tg := 16) (pc' := 8) rfl (by decide) (by decide) rfl dX3_read_5 rfl (ihN rfl) rfl ?_
  refine bplain (pc' := 9) rfl dX3_read_8 rfl (ihN rfl) rfl ?_
  refine bthr (pc' := 12) rfl dX3_read_9 rfl (lkf0 q2611 lf_167) (trivial) (ihN rfl) rfl ?_
  refine bplain (pc' := 13) rfl dX3_read_12 rfl (ihN rfl) rfl ?_
  refine bplain (pc' := 14) rfl dX3_read_13 rfl (ihN rfl) rfl ?_
  refine bplain (pc' := 15) rfl dX3_read_14 rfl (ihN rfl) rfl ?_
  refine bret (pc' := 16) rfl dX3_read_15 rfl (rfl) (ihN rfl) rfl ?_
  exact trivial
theorem bf_X3_read_16 : BOKt mt tX3_read 350 16 b_X3_read_16 := by
  refine bplain (pc' := 17) rfl dX3_read_16 rfl (ihN rfl) rfl ?_
  refine bplain (pc' := 18) rfl dX3_read_17 rfl (ihN rfl) rfl ?_
  refine bplain (pc' := 19) rfl dX3_read_18 rfl (ihN rfl) rfl ?_
  refine bplain (pc' := 20) rfl dX3_read_19 rfl (ihN rfl) rfl ?_
  refine bplain (pc' := 21) rfl dX3_read_20 rfl (ihN rfl) rfl ?_
  refine bcall (pc' := 24) rfl dX3_read_21 rfl (trivial) (lcv (n := 3) rfl (pvc (lfv mt_X3_lacksPlace ⟨by decide, by decide⟩ mok_X3_lacksPlace ⟨by decide, by decide⟩ ⟨q3083, ln_255, Or.inl ⟨q3081, Or.inl qs114⟩⟩) (trivial)) (Or.inl (by decide))) (ihN rfl) rfl ?_
  refine bobj (pc' := 27) rfl dX3_read_24 rfl (⟨lkf0 q2635 lf_547, lkp0 lp_548⟩) (ihN rfl) rfl ?_
  refine bplain (pc' := 28) rfl dX3_read_27 rfl (ihN rfl) rfl ?_
  refine bthr (pc' := 31) rfl dX3_read_28 rfl (lkf0 q2635 lf_547) (trivial) (ihN rfl) rfl ?_
  refine bplain (pc' := 32) rfl dX3_read_31 rfl (ihN rfl) rfl ?_
  refine bjmp (tg := 37) (pc' := 35) rfl (by decide) (by decide) rfl dX3_read_32 rfl (ihN rfl) rfl ?_
  refine bplain (pc' := 36) rfl dX3_read_35 rfl (ihN rfl) rfl ?_
  refine bret (pc' := 37) rfl dX3_read_36 rfl (rfl) (ihN rfl) rfl ?_
  exact trivial
theorem bf_X3_read_37 : BOKt mt tX3_read 350 37 b_X3_read_37 := by
  refine bplain (pc' := 39) rfl dX3_read_37 rfl (ihN rfl) rfl ?_
  refine bplain (pc' := 40) rfl dX3_read_39 rfl (ihN rfl) rfl ?_
  refine bthr (pc' := 43) rfl dX3_read_40 rfl (lkf0 q2610 lf_165) (trivial) (ihN rfl) rfl ?_
  refine bplain (pc' := 44) rfl dX3_read_43 rfl (ihN rfl) rfl ?_
  refine bplain (pc' := 45) rfl dX3_read_44 rfl (ihN rfl) rfl ?_
  refine bplain (pc' := 46) rfl dX3_read_45 rfl (ihN rfl) rfl ?_
  refine bplain (pc' := 47) rfl dX3_read_46 rfl (ihN rfl) rfl ?_
  refine bplain (pc' := 48) rfl dX3_read_47 rfl (ihN rfl) rfl ?_
  refine bplain (pc' := 49) rfl dX3_read_48 rfl (ihN rfl) rfl ?_
  refine bplain (pc' := 50) rfl dX3_read_49 rfl (ihN rfl) rfl ?_
  refine bcall (pc' := 53) rfl dX3_read_50 rfl (trivial) (lcv (n := 3) rfl (pvc (lfv mt_X3_placeOf ⟨by decide, by decide⟩ mok_X3_placeOf ⟨by decide, by decide⟩ ⟨q2893, ln_255, Or.inl ⟨q2891, Or.inl qs79⟩⟩) (trivial)) (Or.inl (by decide))) (ihN rfl) rfl ?_
  refine bplain (pc' := 54) rfl dX3_read_53 rfl (ihN rfl) rfl ?_
  refine bplain (pc' := 56) rfl dX3_read_54 rfl (ihN rfl) rfl ?_
  refine bplain (pc' := 57) rfl dX3_read_56 rfl (ihN rfl) rfl ?_
  refine bthr (pc' := 60) rfl dX3_read_57 rfl (lkf0 q2630 lf_549) (trivial) (ihN rfl) rfl ?_
  refine bjmp (tg := 78) (pc' := 63) rfl (by decide) (by decide) rfl dX3_read_60 rfl (ihN rfl) rfl ?_
  refine bplain (pc' := 64) rfl dX3_read_63 rfl (ihN rfl) rfl ?_
  refine bthr (pc' := 67) rfl dX3_read_64 rfl (lkf0 q2626 lf_183) (trivial) (ihN rfl) rfl ?_
  refine bplain (pc' := 68) rfl dX3_read_67 rfl (ihN rfl) rfl ?_
  refine bthr (pc' := 71) rfl dX3_read_68 rfl (lkf0 q2610 lf_165) (trivial) (ihN rfl) rfl ?_
  refine bplain (pc' := 72) rfl dX3_read_71 rfl (ihN rfl) rfl ?_
  refine bplain (pc' := 73) rfl dX3_read_72 rfl (ihN rfl) rfl ?_
  refine bplain (pc' := 74) rfl dX3_read_73 rfl (ihN rfl) rfl ?_
  refine bplain (pc' := 75) rfl dX3_read_74 rfl (ihN rfl) rfl ?_
  refine bjmp (tg := 86) (pc' := 78) rfl (by decide) (by decide) rfl dX3_read_75 rfl (ihN rfl) rfl ?_
  exact bnop0 rfl (by decide)
theorem bf_X3_read_78 : BOKt mt tX3_read 350 78 b_X3_read_78 := by
  refine bnop1 ?_
  refine bplain (pc' := 79) rfl dX3_read_78 rfl (ihN rfl) rfl ?_
  refine bthr (pc' := 82) rfl dX3_read_79 rfl (lkf0 q2599 lf_149) (trivial) (ihN rfl) rfl ?_
  refine bplain (pc' := 84) rfl dX3_read_82 rfl (ihN rfl) rfl ?_
  refine bplain (pc' := 85) rfl dX3_read_84 rfl (ihN rfl) rfl ?_
  refine bret (pc' := 86) rfl dX3_read_85 rfl (rfl) (ihN rfl) rfl ?_
  exact trivial
theorem bf_X3_read_86 : BOKt mt tX3_read 350 86 b_X3_read_86 := by
  refine bplain (pc' := 87) rfl dX3_read_86 rfl (ihN rfl) rfl ?_
  refine bthr (pc' := 90) rfl dX3_read_87 rfl (lkf0 q2629 lf_189) (trivial) (ihN rfl) rfl ?_
  refine bplain (pc' := 93) rfl dX3_read_90 rfl (ihN rfl) rfl ?_
  refine bplain (pc' := 94) rfl dX3_read_93 rfl (ihN rfl) rfl ?_
  refine bplain (pc' := 95) rfl dX3_read_94 rfl (ihN rfl) rfl ?_
  refine bplain (pc' := 97) rfl dX3_read_95 rfl (ihN rfl) rfl ?_
  refine bplain (pc' := 98) rfl dX3_read_97 rfl (ihN rfl) rfl ?_
  refine bplain (pc' := 99) rfl dX3_read_98 rfl (ihN rfl) rfl ?_
  refine bjmp (tg := 118) (pc' := 102) rfl (by decide) (by decide) rfl dX3_read_99 rfl (ihN rfl) rfl ?_
  refine bplain (pc' := 103) rfl dX3_read_102 rfl (ihN rfl) rfl ?_
  refine bthr (pc' := 106) rfl dX3_read_103 rfl (lkf0 q2628 lf_187) (trivial) (ihN rfl) rfl ?_
  refine bplain (pc' := 109) rfl dX3_read_106 rfl (ihN rfl) rfl ?_
  refine bplain (pc' := 110) rfl dX3_read_109 rfl (ihN rfl) rfl ?_
  refine bplain (pc' := 111) rfl dX3_read_110 rfl (ihN rfl) rfl ?_
  refine bplain (pc' := 113) rfl dX3_read_111 rfl (ihN rfl) rfl ?_
  refine bplain (pc' := 114) rfl dX3_read_113 rfl (ihN rfl) rfl ?_
  refine bplain (pc' := 115) rfl dX3_read_114 rfl (ihN rfl) rfl ?_
  refine bjmp (tg := 125) (pc' := 118) rfl (by decide) (by decide) rfl dX3_read_115 rfl (ihN rfl) rfl ?_
  exact trivial
theorem bf_X3_read_118 : BOKt mt tX3_read 350 118 b_X3_read_118 := by
  refine bplain (pc' := 119) rfl dX3_read_118 rfl (ihN rfl) rfl ?_
  refine bthr (pc' := 122) rfl dX3_read_119 rfl (lkf0 q2627 lf_185) (trivial) (ihN rfl) rfl ?_
  refine bplain (pc' := 124) rfl dX3_read_122 rfl (ihN rfl) rfl ?_
  refine bplain (pc' := 125) rfl dX3_read_124 rfl (ihN rfl) rfl ?_
  exact bnop0 rfl (by decide)
theorem bf_X3_read_125 : BOKt mt tX3_read 350 125 b_X3_read_125 := by
  refine bnop1 ?_
  refine bret (pc' := 126) rfl dX3_read_125 rfl (rfl) (ihN rfl) rfl ?_
  exact trivial
theorem tf_X3_read : ∀ x ∈ tb_X3_read, BOK mt 350 x.1 x.2 := tb_c mt_X3_read bf_X3_read_0 (tb_c mt_X3_read bf_X3_read_16 (tb_c mt_X3_read bf_X3_read_37 (tb_c mt_X3_read bf_X3_read_78 (tb_c mt_X3_read bf_X3_read_86 (tb_c mt_X3_read bf_X3_read_118 (tb_c mt_X3_read bf_X3_read_125 (tb_n)))))))
