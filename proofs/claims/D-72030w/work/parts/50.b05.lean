/-! BLOCKS' FACTS 5 (by gen/bok.py) -/
set_option maxRecDepth 100000
theorem bf_X3_formBy_0 : BOKt mt tX3_formBy 351 0 b_X3_formBy_0 := by
  refine bplain (pc' := 1) rfl dX3_formBy_0 rfl (ihN rfl) rfl ?_
  refine bthr (pc' := 4) rfl dX3_formBy_1 rfl (lkf0 q2610 lf_165) (trivial) (ihN rfl) rfl ?_
  refine bplain (pc' := 5) rfl dX3_formBy_4 rfl (ihN rfl) rfl ?_
  refine bplain (pc' := 6) rfl dX3_formBy_5 rfl (ihN rfl) rfl ?_
  refine bplain (pc' := 7) rfl dX3_formBy_6 rfl (ihN rfl) rfl ?_
  refine bjmp (tg := 14) (pc' := 10) rfl (by decide) (by decide) rfl dX3_formBy_7 rfl (ihN rfl) rfl ?_
  refine bplain (pc' := 11) rfl dX3_formBy_10 rfl (ihN rfl) rfl ?_
  refine bjmp (tg := 25) (pc' := 14) rfl (by decide) (by decide) rfl dX3_formBy_11 rfl (ihN rfl) rfl ?_
  exact trivial
theorem bf_X3_formBy_14 : BOKt mt tX3_formBy 351 14 b_X3_formBy_14 := by
  refine bplain (pc' := 15) rfl dX3_formBy_14 rfl (ihN rfl) rfl ?_
  refine bthr (pc' := 18) rfl dX3_formBy_15 rfl (lkf0 q2597 lf_145) (trivial) (ihN rfl) rfl ?_
  refine bplain (pc' := 19) rfl dX3_formBy_18 rfl (ihN rfl) rfl ?_
  refine bthr (pc' := 22) rfl dX3_formBy_19 rfl (lkf0 q2610 lf_165) (trivial) (ihN rfl) rfl ?_
  refine bplain (pc' := 23) rfl dX3_formBy_22 rfl (ihN rfl) rfl ?_
  refine bplain (pc' := 24) rfl dX3_formBy_23 rfl (ihN rfl) rfl ?_
  refine bplain (pc' := 25) rfl dX3_formBy_24 rfl (ihN rfl) rfl ?_
  exact bnop0 rfl (by decide)
theorem bf_X3_formBy_25 : BOKt mt tX3_formBy 351 25 b_X3_formBy_25 := by
  refine bnop1 ?_
  refine bret (pc' := 26) rfl dX3_formBy_25 rfl (Or.inl ⟨rfl, rfl⟩) (ihN rfl) rfl ?_
  exact trivial
theorem tf_X3_formBy : ∀ x ∈ tb_X3_formBy, BOK mt 351 x.1 x.2 := tb_c mt_X3_formBy bf_X3_formBy_0 (tb_c mt_X3_formBy bf_X3_formBy_14 (tb_c mt_X3_formBy bf_X3_formBy_25 (tb_n)))
theorem bf_X3_widthOf_0 : BOKt mt tX3_widthOf 352 0 b_X3_widthOf_0 := by
  refine bplain (pc' := 1) rfl dX3_widthOf_0 rfl (ihN rfl) rfl ?_
  refine bthr (pc' := 4) rfl dX3_widthOf_1 rfl (lkf0 q2605 lf_155) (trivial) (ihN rfl) rfl ?_
  refine bplain (pc' := 5) rfl dX3_widthOf_4 rfl (ihN rfl) rfl ?_
  refine bplain (pc' := 6) rfl dX3_widthOf_5 rfl (ihN rfl) rfl ?_
  refine bplain (pc' := 7) rfl dX3_widthOf_6 rfl (ihN rfl) rfl ?_
  refine bplain (pc' := 8) rfl dX3_widthOf_7 rfl (ihN rfl) rfl ?_
  refine bplain (pc' := 9) rfl dX3_widthOf_8 rfl (ihN rfl) rfl ?_
  refine bplain (pc' := 10) rfl dX3_widthOf_9 rfl (ihN rfl) rfl ?_
  refine bplain (pc' := 11) rfl dX3_widthOf_10 rfl (ihN rfl) rfl ?_
  refine bplain (pc' := 12) rfl dX3_widthOf_11 rfl (ihN rfl) rfl ?_
  refine bplain (pc' := 14) rfl dX3_widthOf_12 rfl (ihN rfl) rfl ?_
  exact bnop0 rfl (by decide)
theorem bf_X3_widthOf_14 : BOKt mt tX3_widthOf 352 14 b_X3_widthOf_14 := by
  refine bnop1 ?_
  refine bplain (pc' := 16) rfl dX3_widthOf_14 rfl (ihN rfl) rfl ?_
  refine bplain (pc' := 17) rfl dX3_widthOf_16 rfl (ihN rfl) rfl ?_
  refine bplain (pc' := 18) rfl dX3_widthOf_17 rfl (ihN rfl) rfl ?_
  refine bplain (pc' := 19) rfl dX3_widthOf_18 rfl (ihN rfl) rfl ?_
  refine bplain (pc' := 20) rfl dX3_widthOf_19 rfl (ihN rfl) rfl ?_
  refine bplain (pc' := 21) rfl dX3_widthOf_20 rfl (ihN rfl) rfl ?_
  refine bjmp (tg := 77) (pc' := 24) rfl (by decide) (by decide) rfl dX3_widthOf_21 rfl (ihN rfl) rfl ?_
  refine bplain (pc' := 26) rfl dX3_widthOf_24 rfl (ihN rfl) rfl ?_
  refine bplain (pc' := 27) rfl dX3_widthOf_26 rfl (ihN rfl) rfl ?_
  refine bplain (pc' := 28) rfl dX3_widthOf_27 rfl (ihN rfl) rfl ?_
  refine bplain (pc' := 29) rfl dX3_widthOf_28 rfl (ihN rfl) rfl ?_
  refine bjmp (tg := 38) (pc' := 32) rfl (by decide) (by decide) rfl dX3_widthOf_29 rfl (ihN rfl) rfl ?_
  refine bplain (pc' := 33) rfl dX3_widthOf_32 rfl (ihN rfl) rfl ?_
  refine bplain (pc' := 35) rfl dX3_widthOf_33 rfl (ihN rfl) rfl ?_
  refine bjmp (tg := 42) (pc' := 38) rfl (by decide) (by decide) rfl dX3_widthOf_35 rfl (ihN rfl) rfl ?_
  exact bnop0 rfl (by decide)
theorem bf_X3_widthOf_38 : BOKt mt tX3_widthOf 352 38 b_X3_widthOf_38 := by
  refine bnop1 ?_
  refine bplain (pc' := 39) rfl dX3_widthOf_38 rfl (ihN rfl) rfl ?_
  refine bjmp (tg := 43) (pc' := 42) rfl (by decide) (by decide) rfl dX3_widthOf_39 rfl (ihN rfl) rfl ?_
  exact trivial
theorem bf_X3_widthOf_42 : BOKt mt tX3_widthOf 352 42 b_X3_widthOf_42 := by
  refine bplain (pc' := 43) rfl dX3_widthOf_42 rfl (ihN rfl) rfl ?_
  exact bnop0 rfl (by decide)
theorem bf_X3_widthOf_43 : BOKt mt tX3_widthOf 352 43 b_X3_widthOf_43 := by
  refine bnop1 ?_
  refine bplain (pc' := 45) rfl dX3_widthOf_43 rfl (ihN rfl) rfl ?_
  refine bplain (pc' := 47) rfl dX3_widthOf_45 rfl (ihN rfl) rfl ?_
  refine bjmp (tg := 69) (pc' := 50) rfl (by decide) (by decide) rfl dX3_widthOf_47 rfl (ihN rfl) rfl ?_
  refine bplain (pc' := 51) rfl dX3_widthOf_50 rfl (ihN rfl) rfl ?_
  refine bplain (pc' := 53) rfl dX3_widthOf_51 rfl (ihN rfl) rfl ?_
  refine bcall (pc' := 56) rfl dX3_widthOf_53 rfl (trivial) (lcv (n := 1) rfl (pvc (lfv mt_X3_formBy ⟨by decide, by decide⟩ mok_X3_formBy ⟨by decide, by decide⟩ ⟨q3095, ln_225, Or.inl ⟨q3093, Or.inl qs117⟩⟩) (trivial)) (Or.inl (by decide))) (ihN rfl) rfl ?_
  refine bplain (pc' := 57) rfl dX3_widthOf_56 rfl (ihN rfl) rfl ?_
  refine bjmp (tg := 69) (pc' := 60) rfl (by decide) (by decide) rfl dX3_widthOf_57 rfl (ihN rfl) rfl ?_
  refine bplain (pc' := 61) rfl dX3_widthOf_60 rfl (ihN rfl) rfl ?_
  refine bplain (pc' := 63) rfl dX3_widthOf_61 rfl (ihN rfl) rfl ?_
  refine bcall (pc' := 66) rfl dX3_widthOf_63 rfl (trivial) (lcv (n := 1) rfl (pvc (lfv mt_X3_formBy ⟨by decide, by decide⟩ mok_X3_formBy ⟨by decide, by decide⟩ ⟨q3095, ln_225, Or.inl ⟨q3093, Or.inl qs117⟩⟩) (trivial)) (Or.inl (by decide))) (ihN rfl) rfl ?_
  refine bjmp (tg := 70) (pc' := 69) rfl (by decide) (by decide) rfl dX3_widthOf_66 rfl (ihN rfl) rfl ?_
  exact trivial
theorem bf_X3_widthOf_69 : BOKt mt tX3_widthOf 352 69 b_X3_widthOf_69 := by
  refine bnop1 ?_
  refine bplain (pc' := 70) rfl dX3_widthOf_69 rfl (ihN rfl) rfl ?_
  exact bnop0 rfl (by decide)
theorem bf_X3_widthOf_70 : BOKt mt tX3_widthOf 352 70 b_X3_widthOf_70 := by
  refine bnop1 ?_
  refine bplain (pc' := 71) rfl dX3_widthOf_70 rfl (ihN rfl) rfl ?_
  refine bplain (pc' := 74) rfl dX3_widthOf_71 rfl (ihN rfl) rfl ?_
  refine bjmp (tg := 14) (pc' := 77) rfl (by decide) (by decide) rfl dX3_widthOf_74 rfl (ihN rfl) rfl ?_
  exact trivial
theorem bf_X3_widthOf_77 : BOKt mt tX3_widthOf 352 77 b_X3_widthOf_77 := by
  refine bplain (pc' := 78) rfl dX3_widthOf_77 rfl (ihN rfl) rfl ?_
  refine bplain (pc' := 80) rfl dX3_widthOf_78 rfl (ihN rfl) rfl ?_
  refine bplain (pc' := 82) rfl dX3_widthOf_80 rfl (ihN rfl) rfl ?_
  refine bcall (pc' := 85) rfl dX3_widthOf_82 rfl (trivial) (lcs (l := q2747) mt_X3_in ⟨by decide, by decide⟩ mok_X3_in rfl ln_226 (Or.inl q2746)) (ihN rfl) rfl ?_
  refine bjmp (tg := 94) (pc' := 88) rfl (by decide) (by decide) rfl dX3_widthOf_85 rfl (ihN rfl) rfl ?_
  refine bplain (pc' := 89) rfl dX3_widthOf_88 rfl (ihN rfl) rfl ?_
  refine bplain (pc' := 91) rfl dX3_widthOf_89 rfl (ihN rfl) rfl ?_
  refine bjmp (tg := 98) (pc' := 94) rfl (by decide) (by decide) rfl dX3_widthOf_91 rfl (ihN rfl) rfl ?_
  exact bnop0 rfl (by decide)
theorem bf_X3_widthOf_94 : BOKt mt tX3_widthOf 352 94 b_X3_widthOf_94 := by
  refine bnop1 ?_
  refine bplain (pc' := 95) rfl dX3_widthOf_94 rfl (ihN rfl) rfl ?_
  refine bjmp (tg := 99) (pc' := 98) rfl (by decide) (by decide) rfl dX3_widthOf_95 rfl (ihN rfl) rfl ?_
  exact trivial
theorem bf_X3_widthOf_98 : BOKt mt tX3_widthOf 352 98 b_X3_widthOf_98 := by
  refine bplain (pc' := 99) rfl dX3_widthOf_98 rfl (ihN rfl) rfl ?_
  exact bnop0 rfl (by decide)
theorem bf_X3_widthOf_99 : BOKt mt tX3_widthOf 352 99 b_X3_widthOf_99 := by
  refine bnop1 ?_
  refine bret (pc' := 100) rfl dX3_widthOf_99 rfl (Or.inl ⟨rfl, rfl⟩) (ihN rfl) rfl ?_
  exact trivial
theorem tf_X3_widthOf : ∀ x ∈ tb_X3_widthOf, BOK mt 352 x.1 x.2 := tb_c mt_X3_widthOf bf_X3_widthOf_0 (tb_c mt_X3_widthOf bf_X3_widthOf_14 (tb_c mt_X3_widthOf bf_X3_widthOf_38 (tb_c mt_X3_widthOf bf_X3_widthOf_42 (tb_c mt_X3_widthOf bf_X3_widthOf_43 (tb_c mt_X3_widthOf bf_X3_widthOf_69 (tb_c mt_X3_widthOf bf_X3_widthOf_70 (tb_c mt_X3_widthOf bf_X3_widthOf_77 (tb_c mt_X3_widthOf bf_X3_widthOf_94 (tb_c mt_X3_widthOf bf_X3_widthOf_98 (tb_c mt_X3_widthOf bf_X3_widthOf_99 (tb_n)))))))))))
theorem bf_X3_isInt_0 : BOKt mt tX3_isInt 353 0 b_X3_isInt_0 := by
  refine bplain (pc' := 1) rfl dX3_isInt_0 rfl (ihN rfl) rfl ?_
  refine bobj (pc' := 4) rfl dX3_isInt_1 rfl (lkq0 lc_550 q3104) (ihN rfl) rfl ?_
  refine bplain (pc' := 5) rfl dX3_isInt_4 rfl (ihN rfl) rfl ?_
  refine bjmp (tg := 20) (pc' := 8) rfl (by decide) (by decide) rfl dX3_isInt_5 rfl (ihN rfl) rfl ?_
  refine bplain (pc' := 9) rfl dX3_isInt_8 rfl (ihN rfl) rfl ?_
  refine bobj (pc' := 12) rfl dX3_isInt_9 rfl (lkq0 lc_551 q3105) (ihN rfl) rfl ?_
  refine bplain (pc' := 13) rfl dX3_isInt_12 rfl (ihN rfl) rfl ?_
  refine bjmp (tg := 20) (pc' := 16) rfl (by decide) (by decide) rfl dX3_isInt_13 rfl (ihN rfl) rfl ?_
  refine bplain (pc' := 17) rfl dX3_isInt_16 rfl (ihN rfl) rfl ?_
  refine bjmp (tg := 21) (pc' := 20) rfl (by decide) (by decide) rfl dX3_isInt_17 rfl (ihN rfl) rfl ?_
  exact trivial
theorem bf_X3_isInt_20 : BOKt mt tX3_isInt 353 20 b_X3_isInt_20 := by
  refine bnop1 ?_
  refine bplain (pc' := 21) rfl dX3_isInt_20 rfl (ihN rfl) rfl ?_
  exact bnop0 rfl (by decide)
theorem bf_X3_isInt_21 : BOKt mt tX3_isInt 353 21 b_X3_isInt_21 := by
  refine bnop1 ?_
  refine bret (pc' := 22) rfl dX3_isInt_21 rfl (Or.inr ⟨rfl, rfl⟩) (ihN rfl) rfl ?_
  exact trivial
theorem tf_X3_isInt : ∀ x ∈ tb_X3_isInt, BOK mt 353 x.1 x.2 := tb_c mt_X3_isInt bf_X3_isInt_0 (tb_c mt_X3_isInt bf_X3_isInt_20 (tb_c mt_X3_isInt bf_X3_isInt_21 (tb_n)))
theorem bf_X3_byInts_0 : BOKt mt tX3_byInts 354 0 b_X3_byInts_0 := by
  refine bplain (pc' := 1) rfl dX3_byInts_0 rfl (ihN rfl) rfl ?_
  refine bplain (pc' := 3) rfl dX3_byInts_1 rfl (ihN rfl) rfl ?_
  refine bjmp (tg := 14) (pc' := 6) rfl (by decide) (by decide) rfl dX3_byInts_3 rfl (ihN rfl) rfl ?_
  refine bplain (pc' := 7) rfl dX3_byInts_6 rfl (ihN rfl) rfl ?_
  refine bplain (pc' := 8) rfl dX3_byInts_7 rfl (ihN rfl) rfl ?_
  refine bplain (pc' := 9) rfl dX3_byInts_8 rfl (ihN rfl) rfl ?_
  refine bplain (pc' := 10) rfl dX3_byInts_9 rfl (ihN rfl) rfl ?_
  refine bplain (pc' := 11) rfl dX3_byInts_10 rfl (ihN rfl) rfl ?_
  refine bjmp (tg := 19) (pc' := 14) rfl (by decide) (by decide) rfl dX3_byInts_11 rfl (ihN rfl) rfl ?_
  exact trivial
theorem bf_X3_byInts_14 : BOKt mt tX3_byInts 354 14 b_X3_byInts_14 := by
  refine bplain (pc' := 15) rfl dX3_byInts_14 rfl (ihN rfl) rfl ?_
  refine bplain (pc' := 16) rfl dX3_byInts_15 rfl (ihN rfl) rfl ?_
  refine bplain (pc' := 17) rfl dX3_byInts_16 rfl (ihN rfl) rfl ?_
  refine bplain (pc' := 18) rfl dX3_byInts_17 rfl (ihN rfl) rfl ?_
  refine bplain (pc' := 19) rfl dX3_byInts_18 rfl (ihN rfl) rfl ?_
  exact bnop0 rfl (by decide)
theorem bf_X3_byInts_19 : BOKt mt tX3_byInts 354 19 b_X3_byInts_19 := by
  refine bnop1 ?_
  refine bplain (pc' := 21) rfl dX3_byInts_19 rfl (ihN rfl) rfl ?_
  refine bplain (pc' := 22) rfl dX3_byInts_21 rfl (ihN rfl) rfl ?_
  exact bsw rfl dX3_byInts_22 (swt (by decide) (by decide) (by decide) (by decide) (by decide +kernel) (by decide +kernel)) (by decide +kernel) (ihN rfl)
theorem bf_X3_byInts_80 : BOKt mt tX3_byInts 354 80 b_X3_byInts_80 := by
  refine bplain (pc' := 81) rfl dX3_byInts_80 rfl (ihN rfl) rfl ?_
  refine bplain (pc' := 82) rfl dX3_byInts_81 rfl (ihN rfl) rfl ?_
  refine bplain (pc' := 83) rfl dX3_byInts_82 rfl (ihN rfl) rfl ?_
  refine bret (pc' := 84) rfl dX3_byInts_83 rfl (Or.inl ⟨rfl, rfl⟩) (ihN rfl) rfl ?_
  exact trivial
theorem bf_X3_byInts_84 : BOKt mt tX3_byInts 354 84 b_X3_byInts_84 := by
  refine bplain (pc' := 85) rfl dX3_byInts_84 rfl (ihN rfl) rfl ?_
  refine bplain (pc' := 86) rfl dX3_byInts_85 rfl (ihN rfl) rfl ?_
  refine bplain (pc' := 87) rfl dX3_byInts_86 rfl (ihN rfl) rfl ?_
  refine bret (pc' := 88) rfl dX3_byInts_87 rfl (Or.inl ⟨rfl, rfl⟩) (ihN rfl) rfl ?_
  exact trivial
theorem bf_X3_byInts_88 : BOKt mt tX3_byInts 354 88 b_X3_byInts_88 := by
  refine bplain (pc' := 89) rfl dX3_byInts_88 rfl (ihN rfl) rfl ?_
  refine bplain (pc' := 90) rfl dX3_byInts_89 rfl (ihN rfl) rfl ?_
  refine bplain (pc' := 91) rfl dX3_byInts_90 rfl (ihN rfl) rfl ?_
  refine bret (pc' := 92) rfl dX3_byInts_91 rfl (Or.inl ⟨rfl, rfl⟩) (ihN rfl) rfl ?_
  exact trivial
theorem bf_X3_byInts_92 : BOKt mt tX3_byInts 354 92 b_X3_byInts_92 := by
  refine bplain (pc' := 93) rfl dX3_byInts_92 rfl (ihN rfl) rfl ?_
  refine bjmp (tg := 100) (pc' := 96) rfl (by decide) (by decide) rfl dX3_byInts_93 rfl (ihN rfl) rfl ?_
  refine bplain (pc' := 97) rfl dX3_byInts_96 rfl (ihN rfl) rfl ?_
  refine bjmp (tg := 103) (pc' := 100) rfl (by decide) (by decide) rfl dX3_byInts_97 rfl (ihN rfl) rfl ?_
  exact trivial
theorem bf_X3_byInts_100 : BOKt mt tX3_byInts 354 100 b_X3_byInts_100 := by
  refine bplain (pc' := 101) rfl dX3_byInts_100 rfl (ihN rfl) rfl ?_
  refine bplain (pc' := 102) rfl dX3_byInts_101 rfl (ihN rfl) rfl ?_
  refine bplain (pc' := 103) rfl dX3_byInts_102 rfl (ihN rfl) rfl ?_
  exact bnop0 rfl (by decide)
theorem bf_X3_byInts_103 : BOKt mt tX3_byInts 354 103 b_X3_byInts_103 := by
  refine bnop1 ?_
  refine bret (pc' := 104) rfl dX3_byInts_103 rfl (Or.inl ⟨rfl, rfl⟩) (ihN rfl) rfl ?_
  exact trivial
theorem bf_X3_byInts_104 : BOKt mt tX3_byInts 354 104 b_X3_byInts_104 := by
  refine bplain (pc' := 105) rfl dX3_byInts_104 rfl (ihN rfl) rfl ?_
  refine bplain (pc' := 106) rfl dX3_byInts_105 rfl (ihN rfl) rfl ?_
  refine bjmp (tg := 113) (pc' := 109) rfl (by decide) (by decide) rfl dX3_byInts_106 rfl (ihN rfl) rfl ?_
  refine bplain (pc' := 110) rfl dX3_byInts_109 rfl (ihN rfl) rfl ?_
  refine bjmp (tg := 114) (pc' := 113) rfl (by decide) (by decide) rfl dX3_byInts_110 rfl (ihN rfl) rfl ?_
  exact trivial
theorem bf_X3_byInts_113 : BOKt mt tX3_byInts 354 113 b_X3_byInts_113 := by
  refine bplain (pc' := 114) rfl dX3_byInts_113 rfl (ihN rfl) rfl ?_
  exact bnop0 rfl (by decide)
theorem bf_X3_byInts_114 : BOKt mt tX3_byInts 354 114 b_X3_byInts_114 := by
  refine bnop1 ?_
  refine bret (pc' := 115) rfl dX3_byInts_114 rfl (Or.inl ⟨rfl, rfl⟩) (ihN rfl) rfl ?_
  exact trivial
theorem bf_X3_byInts_115 : BOKt mt tX3_byInts 354 115 b_X3_byInts_115 := by
  refine bplain (pc' := 116) rfl dX3_byInts_115 rfl (ihN rfl) rfl ?_
  refine bplain (pc' := 117) rfl dX3_byInts_116 rfl (ihN rfl) rfl ?_
  refine bjmp (tg := 124) (pc' := 120) rfl (by decide) (by decide) rfl dX3_byInts_117 rfl (ihN rfl) rfl ?_
  refine bplain (pc' := 121) rfl dX3_byInts_120 rfl (ihN rfl) rfl ?_
  refine bjmp (tg := 125) (pc' := 124) rfl (by decide) (by decide) rfl dX3_byInts_121 rfl (ihN rfl) rfl ?_
  exact trivial
theorem bf_X3_byInts_124 : BOKt mt tX3_byInts 354 124 b_X3_byInts_124 := by
  refine bplain (pc' := 125) rfl dX3_byInts_124 rfl (ihN rfl) rfl ?_
  exact bnop0 rfl (by decide)
theorem bf_X3_byInts_125 : BOKt mt tX3_byInts 354 125 b_X3_byInts_125 := by
  refine bnop1 ?_
  refine bret (pc' := 126) rfl dX3_byInts_125 rfl (Or.inl ⟨rfl, rfl⟩) (ihN rfl) rfl ?_
  exact trivial
theorem bf_X3_byInts_126 : BOKt mt tX3_byInts 354 126 b_X3_byInts_126 := by
  refine bplain (pc' := 127) rfl dX3_byInts_126 rfl (ihN rfl) rfl ?_
  refine bplain (pc' := 128) rfl dX3_byInts_127 rfl (ihN rfl) rfl ?_
  refine bplain (pc' := 129) rfl dX3_byInts_128 rfl (ihN rfl) rfl ?_
  refine bret (pc' := 130) rfl dX3_byInts_129 rfl (Or.inl ⟨rfl, rfl⟩) (ihN rfl) rfl ?_
  exact trivial
theorem bf_X3_byInts_130 : BOKt mt tX3_byInts 354 130 b_X3_byInts_130 := by
  refine bplain (pc' := 131) rfl dX3_byInts_130 rfl (ihN rfl) rfl ?_
  refine bplain (pc' := 132) rfl dX3_byInts_131 rfl (ihN rfl) rfl ?_
  refine bplain (pc' := 133) rfl dX3_byInts_132 rfl (ihN rfl) rfl ?_
  refine bret (pc' := 134) rfl dX3_byInts_133 rfl (Or.inl ⟨rfl, rfl⟩) (ihN rfl) rfl ?_
  exact trivial
theorem bf_X3_byInts_134 : BOKt mt tX3_byInts 354 134 b_X3_byInts_134 := by
  refine bplain (pc' := 135) rfl dX3_byInts_134 rfl (ihN rfl) rfl ?_
  refine bplain (pc' := 136) rfl dX3_byInts_135 rfl (ihN rfl) rfl ?_
  refine bplain (pc' := 137) rfl dX3_byInts_136 rfl (ihN rfl) rfl ?_
  refine bret (pc' := 138) rfl dX3_byInts_137 rfl (Or.inl ⟨rfl, rfl⟩) (ihN rfl) rfl ?_
  exact trivial
theorem bf_X3_byInts_138 : BOKt mt tX3_byInts 354 138 b_X3_byInts_138 := by
  refine bplain (pc' := 139) rfl dX3_byInts_138 rfl (ihN rfl) rfl ?_
  refine bret (pc' := 140) rfl dX3_byInts_139 rfl (Or.inl ⟨rfl, rfl⟩) (ihN rfl) rfl ?_
  exact trivial
theorem bf_X3_byInts_140 : BOKt mt tX3_byInts 354 140 b_X3_byInts_140 := by
  refine bplain (pc' := 141) rfl dX3_byInts_140 rfl (ihN rfl) rfl ?_
  refine bplain (pc' := 142) rfl dX3_byInts_141 rfl (ihN rfl) rfl ?_
  refine bplain (pc' := 143) rfl dX3_byInts_142 rfl (ihN rfl) rfl ?_
  refine bjmp (tg := 150) (pc' := 146) rfl (by decide) (by decide) rfl dX3_byInts_143 rfl (ihN rfl) rfl ?_
  refine bplain (pc' := 147) rfl dX3_byInts_146 rfl (ihN rfl) rfl ?_
  refine bjmp (tg := 151) (pc' := 150) rfl (by decide) (by decide) rfl dX3_byInts_147 rfl (ihN rfl) rfl ?_
  exact trivial
theorem bf_X3_byInts_150 : BOKt mt tX3_byInts 354 150 b_X3_byInts_150 := by
  refine bplain (pc' := 151) rfl dX3_byInts_150 rfl (ihN rfl) rfl ?_
  exact bnop0 rfl (by decide)
theorem bf_X3_byInts_151 : BOKt mt tX3_byInts 354 151 b_X3_byInts_151 := by
  refine bnop1 ?_
  refine bobj (pc' := 154) rfl dX3_byInts_151 rfl (⟨lkf0 q2636 lf_552, lkp0 lp_553⟩) (ihN rfl) rfl ?_
  refine bplain (pc' := 155) rfl dX3_byInts_154 rfl (ihN rfl) rfl ?_
  refine bret (pc' := 156) rfl dX3_byInts_155 rfl (Or.inl ⟨rfl, rfl⟩) (ihN rfl) rfl ?_
  exact trivial
theorem bf_X3_byInts_156 : BOKt mt tX3_byInts 354 156 b_X3_byInts_156 := by
  refine bplain (pc' := 157) rfl dX3_byInts_156 rfl (ihN rfl) rfl ?_
  refine bplain (pc' := 159) rfl dX3_byInts_157 rfl (ihN rfl) rfl ?_
  refine bcall (pc' := 162) rfl dX3_byInts_159 rfl (trivial) (lcs (l := q3102) mt_X3_isInt ⟨by decide, by decide⟩ mok_X3_isInt rfl ln_554 (Or.inl q3101)) (ihN rfl) rfl ?_
  refine bjmp (tg := 169) (pc' := 165) rfl (by decide) (by decide) rfl dX3_byInts_162 rfl (ihN rfl) rfl ?_
  refine bplain (pc' := 166) rfl dX3_byInts_165 rfl (ihN rfl) rfl ?_
  refine bjmp (tg := 170) (pc' := 169) rfl (by decide) (by decide) rfl dX3_byInts_166 rfl (ihN rfl) rfl ?_
  exact trivial
theorem bf_X3_byInts_169 : BOKt mt tX3_byInts 354 169 b_X3_byInts_169 := by
  refine bplain (pc' := 170) rfl dX3_byInts_169 rfl (ihN rfl) rfl ?_
  exact bnop0 rfl (by decide)
theorem bf_X3_byInts_170 : BOKt mt tX3_byInts 354 170 b_X3_byInts_170 := by
  refine bnop1 ?_
  refine bobj (pc' := 173) rfl dX3_byInts_170 rfl (⟨lkf0 q2635 lf_547, lkp0 lp_548⟩) (ihN rfl) rfl ?_
  refine bplain (pc' := 175) rfl dX3_byInts_173 rfl (ihN rfl) rfl ?_
  refine bplain (pc' := 176) rfl dX3_byInts_175 rfl (ihN rfl) rfl ?_
  refine bret (pc' := 177) rfl dX3_byInts_176 rfl (Or.inl ⟨rfl, rfl⟩) (ihN rfl) rfl ?_
  exact trivial
theorem tf_X3_byInts : ∀ x ∈ tb_X3_byInts, BOK mt 354 x.1 x.2 := tb_c mt_X3_byInts bf_X3_byInts_0 (tb_c mt_X3_byInts bf_X3_byInts_14 (tb_c mt_X3_byInts bf_X3_byInts_19 (tb_c mt_X3_byInts bf_X3_byInts_80 (tb_c mt_X3_byInts bf_X3_byInts_84 (tb_c mt_X3_byInts bf_X3_byInts_88 (tb_c mt_X3_byInts bf_X3_byInts_92 (tb_c mt_X3_byInts bf_X3_byInts_100 (tb_c mt_X3_byInts bf_X3_byInts_103 (tb_c mt_X3_byInts bf_X3_byInts_104 (tb_c mt_X3_byInts bf_X3_byInts_113 (tb_c mt_X3_byInts bf_X3_byInts_114 (tb_c mt_X3_byInts bf_X3_byInts_115 (tb_c mt_X3_byInts bf_X3_byInts_124 (tb_c mt_X3_byInts bf_X3_byInts_125 (tb_c mt_X3_byInts bf_X3_byInts_126 (tb_c mt_X3_byInts bf_X3_byInts_130 (tb_c mt_X3_byInts bf_X3_byInts_134 (tb_c mt_X3_byInts bf_X3_byInts_138 (tb_c mt_X3_byInts bf_X3_byInts_140 (tb_c mt_X3_byInts bf_X3_byInts_150 (tb_c mt_X3_byInts bf_X3_byInts_151 (tb_c mt_X3_byInts bf_X3_byInts_156 (tb_c mt_X3_byInts bf_X3_byInts_169 (tb_c mt_X3_byInts bf_X3_byInts_170 (tb_n)))))))))))))))))))))))))
theorem bf_X3_byFloats_0 : BOKt mt tX3_byFloats 355 0 b_X3_byFloats_0 := by
  refine bplain (pc' := 1) rfl dX3_byFloats_0 rfl (ihN rfl) rfl ?_
  exact bsw rfl dX3_byFloats_1 (swt (by decide) (by decide) (by decide) (by decide) (by decide +kernel) (by decide +kernel)) (by decide +kernel) (ihN rfl)
theorem bf_X3_byFloats_60 : BOKt mt tX3_byFloats 355 60 b_X3_byFloats_60 := by
  refine bplain (pc' := 61) rfl dX3_byFloats_60 rfl (ihN rfl) rfl ?_
  refine bplain (pc' := 62) rfl dX3_byFloats_61 rfl (ihN rfl) rfl ?_
  refine bplain (pc' := 63) rfl dX3_byFloats_62 rfl (ihN rfl) rfl ?_
  refine bobj (pc' := 66) rfl dX3_byFloats_63 rfl (lkl1 rfl q3110) (ihN rfl) rfl ?_
  refine bplain (pc' := 67) rfl dX3_byFloats_66 rfl (ihN rfl) rfl ?_
  refine bret (pc' := 68) rfl dX3_byFloats_67 rfl (rfl) (ihN rfl) rfl ?_
  exact trivial
theorem bf_X3_byFloats_68 : BOKt mt tX3_byFloats 355 68 b_X3_byFloats_68 := by
  refine bplain (pc' := 69) rfl dX3_byFloats_68 rfl (ihN rfl) rfl ?_
  refine bplain (pc' := 70) rfl dX3_byFloats_69 rfl (ihN rfl) rfl ?_
  refine bplain (pc' := 71) rfl dX3_byFloats_70 rfl (ihN rfl) rfl ?_
  refine bobj (pc' := 74) rfl dX3_byFloats_71 rfl (lkl1 rfl q3110) (ihN rfl) rfl ?_
  refine bplain (pc' := 75) rfl dX3_byFloats_74 rfl (ihN rfl) rfl ?_
  refine bret (pc' := 76) rfl dX3_byFloats_75 rfl (rfl) (ihN rfl) rfl ?_
  exact trivial
theorem bf_X3_byFloats_76 : BOKt mt tX3_byFloats 355 76 b_X3_byFloats_76 := by
  refine bplain (pc' := 77) rfl dX3_byFloats_76 rfl (ihN rfl) rfl ?_
  refine bplain (pc' := 78) rfl dX3_byFloats_77 rfl (ihN rfl) rfl ?_
  refine bplain (pc' := 79) rfl dX3_byFloats_78 rfl (ihN rfl) rfl ?_
  refine bobj (pc' := 82) rfl dX3_byFloats_79 rfl (lkl1 rfl q3110) (ihN rfl) rfl ?_
  refine bplain (pc' := 83) rfl dX3_byFloats_82 rfl (ihN rfl) rfl ?_
  refine bret (pc' := 84) rfl dX3_byFloats_83 rfl (rfl) (ihN rfl) rfl ?_
  exact trivial
theorem bf_X3_byFloats_84 : BOKt mt tX3_byFloats 355 84 b_X3_byFloats_84 := by
  refine bplain (pc' := 85) rfl dX3_byFloats_84 rfl (ihN rfl) rfl ?_
  refine bplain (pc' := 86) rfl dX3_byFloats_85 rfl (ihN rfl) rfl ?_
  refine bplain (pc' := 87) rfl dX3_byFloats_86 rfl (ihN rfl) rfl ?_
  refine bjmp (tg := 94) (pc' := 90) rfl (by decide) (by decide) rfl dX3_byFloats_87 rfl (ihN rfl) rfl ?_
  refine bplain (pc' := 91) rfl dX3_byFloats_90 rfl (ihN rfl) rfl ?_
  refine bjmp (tg := 97) (pc' := 94) rfl (by decide) (by decide) rfl dX3_byFloats_91 rfl (ihN rfl) rfl ?_
  exact trivial
theorem bf_X3_byFloats_94 : BOKt mt tX3_byFloats 355 94 b_X3_byFloats_94 := by
  refine bplain (pc' := 95) rfl dX3_byFloats_94 rfl (ihN rfl) rfl ?_
  refine bplain (pc' := 96) rfl dX3_byFloats_95 rfl (ihN rfl) rfl ?_
  refine bplain (pc' := 97) rfl dX3_byFloats_96 rfl (ihN rfl) rfl ?_
  exact bnop0 rfl (by decide)
theorem bf_X3_byFloats_97 : BOKt mt tX3_byFloats 355 97 b_X3_byFloats_97 := by
  refine bnop1 ?_
  refine bret (pc' := 98) rfl dX3_byFloats_97 rfl (rfl) (ihN rfl) rfl ?_
  exact trivial
theorem bf_X3_byFloats_98 : BOKt mt tX3_byFloats 355 98 b_X3_byFloats_98 := by
  refine bplain (pc' := 99) rfl dX3_byFloats_98 rfl (ihN rfl) rfl ?_
  refine bplain (pc' := 100) rfl dX3_byFloats_99 rfl (ihN rfl) rfl ?_
  refine bplain (pc' := 101) rfl dX3_byFloats_100 rfl (ihN rfl) rfl ?_
  refine bjmp (tg := 108) (pc' := 104) rfl (by decide) (by decide) rfl dX3_byFloats_101 rfl (ihN rfl) rfl ?_
  refine bplain (pc' := 105) rfl dX3_byFloats_104 rfl (ihN rfl) rfl ?_
  refine bjmp (tg := 109) (pc' := 108) rfl (by decide) (by decide) rfl dX3_byFloats_105 rfl (ihN rfl) rfl ?_
  exact trivial
theorem bf_X3_byFloats_108 : BOKt mt tX3_byFloats 355 108 b_X3_byFloats_108 := by
  refine bplain (pc' := 109) rfl dX3_byFloats_108 rfl (ihN rfl) rfl ?_
  exact bnop0 rfl (by decide)
theorem bf_X3_byFloats_109 : BOKt mt tX3_byFloats 355 109 b_X3_byFloats_109 := by
  refine bnop1 ?_
  refine bret (pc' := 110) rfl dX3_byFloats_109 rfl (rfl) (ihN rfl) rfl ?_
  exact trivial
theorem bf_X3_byFloats_110 : BOKt mt tX3_byFloats 355 110 b_X3_byFloats_110 := by
  refine bplain (pc' := 111) rfl dX3_byFloats_110 rfl (ihN rfl) rfl ?_
  refine bplain (pc' := 112) rfl dX3_byFloats_111 rfl (ihN rfl) rfl ?_
  refine bplain (pc' := 113) rfl dX3_byFloats_112 rfl (ihN rfl) rfl ?_
  refine bjmp (tg := 120) (pc' := 116) rfl (by decide) (by decide) rfl dX3_byFloats_113 rfl (ihN rfl) rfl ?_
  refine bplain (pc' := 117) rfl dX3_byFloats_116 rfl (ihN rfl) rfl ?_
  refine bjmp (tg := 121) (pc' := 120) rfl (by decide) (by decide) rfl dX3_byFloats_117 rfl (ihN rfl) rfl ?_
  exact trivial
theorem bf_X3_byFloats_120 : BOKt mt tX3_byFloats 355 120 b_X3_byFloats_120 := by
  refine bplain (pc' := 121) rfl dX3_byFloats_120 rfl (ihN rfl) rfl ?_
  exact bnop0 rfl (by decide)
theorem bf_X3_byFloats_121 : BOKt mt tX3_byFloats 355 121 b_X3_byFloats_121 := by
  refine bnop1 ?_
  refine bret (pc' := 122) rfl dX3_byFloats_121 rfl (rfl) (ihN rfl) rfl ?_
  exact trivial
theorem bf_X3_byFloats_122 : BOKt mt tX3_byFloats 355 122 b_X3_byFloats_122 := by
  refine bplain (pc' := 123) rfl dX3_byFloats_122 rfl (ihN rfl) rfl ?_
  refine bplain (pc' := 124) rfl dX3_byFloats_123 rfl (ihN rfl) rfl ?_
  refine bplain (pc' := 125) rfl dX3_byFloats_124 rfl (ihN rfl) rfl ?_
  refine bplain (pc' := 126) rfl dX3_byFloats_125 rfl (ihN rfl) rfl ?_
  refine bjmp (tg := 133) (pc' := 129) rfl (by decide) (by decide) rfl dX3_byFloats_126 rfl (ihN rfl) rfl ?_
  refine bplain (pc' := 130) rfl dX3_byFloats_129 rfl (ihN rfl) rfl ?_
  refine bjmp (tg := 134) (pc' := 133) rfl (by decide) (by decide) rfl dX3_byFloats_130 rfl (ihN rfl) rfl ?_
  exact trivial
theorem bf_X3_byFloats_133 : BOKt mt tX3_byFloats 355 133 b_X3_byFloats_133 := by
  refine bplain (pc' := 134) rfl dX3_byFloats_133 rfl (ihN rfl) rfl ?_
  exact bnop0 rfl (by decide)
theorem bf_X3_byFloats_134 : BOKt mt tX3_byFloats 355 134 b_X3_byFloats_134 := by
  refine bnop1 ?_
  refine bobj (pc' := 137) rfl dX3_byFloats_134 rfl (⟨lkf0 q2636 lf_552, lkp0 lp_553⟩) (ihN rfl) rfl ?_
  refine bplain (pc' := 138) rfl dX3_byFloats_137 rfl (ihN rfl) rfl ?_
  refine bret (pc' := 139) rfl dX3_byFloats_138 rfl (rfl) (ihN rfl) rfl ?_
  exact trivial
theorem bf_X3_byFloats_139 : BOKt mt tX3_byFloats 355 139 b_X3_byFloats_139 := by
  refine bnop1 ?_
  refine bplain (pc' := 140) rfl dX3_byFloats_139 rfl (ihN rfl) rfl ?_
  refine bret (pc' := 141) rfl dX3_byFloats_140 rfl (rfl) (ihN rfl) rfl ?_
  exact trivial
theorem tf_X3_byFloats : ∀ x ∈ tb_X3_byFloats, BOK mt 355 x.1 x.2 := tb_c mt_X3_byFloats bf_X3_byFloats_0 (tb_c mt_X3_byFloats bf_X3_byFloats_60 (tb_c mt_X3_byFloats bf_X3_byFloats_68 (tb_c mt_X3_byFloats bf_X3_byFloats_76 (tb_c mt_X3_byFloats bf_X3_byFloats_84 (tb_c mt_X3_byFloats bf_X3_byFloats_94 (tb_c mt_X3_byFloats bf_X3_byFloats_97 (tb_c mt_X3_byFloats bf_X3_byFloats_98 (tb_c mt_X3_byFloats bf_X3_byFloats_108 (tb_c mt_X3_byFloats bf_X3_byFloats_109 (tb_c mt_X3_byFloats bf_X3_byFloats_110 (tb_c mt_X3_byFloats bf_X3_byFloats_120 (tb_c mt_X3_byFloats bf_X3_byFloats_121 (tb_c mt_X3_byFloats bf_X3_byFloats_122 (tb_c mt_X3_byFloats bf_X3_byFloats_133 (tb_c mt_X3_byFloats bf_X3_byFloats_134 (tb_c mt_X3_byFloats bf_X3_byFloats_139 (tb_n)))))))))))))))))
theorem bf_X3_zeroed_0 : BOKt mt tX3_zeroed 356 0 b_X3_zeroed_0 := by
  refine bplain (pc' := 1) rfl dX3_zeroed_0 rfl (ihN rfl) rfl ?_
  refine bplain (pc' := 2) rfl dX3_zeroed_1 rfl (ihN rfl) rfl ?_
  refine bplain (pc' := 3) rfl dX3_zeroed_2 rfl (ihN rfl) rfl ?_
  refine bjmp (tg := 10) (pc' := 6) rfl (by decide) (by decide) rfl dX3_zeroed_3 rfl (ihN rfl) rfl ?_
  refine bplain (pc' := 7) rfl dX3_zeroed_6 rfl (ihN rfl) rfl ?_
  refine bjmp (tg := 11) (pc' := 10) rfl (by decide) (by decide) rfl dX3_zeroed_7 rfl (ihN rfl) rfl ?_
  exact trivial
theorem bf_X3_zeroed_10 : BOKt mt tX3_zeroed 356 10 b_X3_zeroed_10 := by
  refine bplain (pc' := 11) rfl dX3_zeroed_10 rfl (ihN rfl) rfl ?_
  exact bnop0 rfl (by decide)
theorem bf_X3_zeroed_11 : BOKt mt tX3_zeroed 356 11 b_X3_zeroed_11 := by
  refine bnop1 ?_
  refine bret (pc' := 12) rfl dX3_zeroed_11 rfl (rfl) (ihN rfl) rfl ?_
  exact trivial
theorem tf_X3_zeroed : ∀ x ∈ tb_X3_zeroed, BOK mt 356 x.1 x.2 := tb_c mt_X3_zeroed bf_X3_zeroed_0 (tb_c mt_X3_zeroed bf_X3_zeroed_10 (tb_c mt_X3_zeroed bf_X3_zeroed_11 (tb_n)))
theorem bf_X3_byDoubles_0 : BOKt mt tX3_byDoubles 357 0 b_X3_byDoubles_0 := by
  refine bplain (pc' := 1) rfl dX3_byDoubles_0 rfl (ihN rfl) rfl ?_
  exact bsw rfl dX3_byDoubles_1 (swt (by decide) (by decide) (by decide) (by decide) (by decide +kernel) (by decide +kernel)) (by decide +kernel) (ihN rfl)
theorem bf_X3_byDoubles_60 : BOKt mt tX3_byDoubles 357 60 b_X3_byDoubles_60 := by
  refine bplain (pc' := 61) rfl dX3_byDoubles_60 rfl (ihN rfl) rfl ?_
  refine bplain (pc' := 63) rfl dX3_byDoubles_61 rfl (ihN rfl) rfl ?_
  refine bplain (pc' := 64) rfl dX3_byDoubles_63 rfl (ihN rfl) rfl ?_
  refine bobj (pc' := 67) rfl dX3_byDoubles_64 rfl (lkq1 rfl q3118) (ihN rfl) rfl ?_
  refine bplain (pc' := 68) rfl dX3_byDoubles_67 rfl (ihN rfl) rfl ?_
  refine bret (pc' := 69) rfl dX3_byDoubles_68 rfl (rfl) (ihN rfl) rfl ?_
  exact trivial
theorem bf_X3_byDoubles_69 : BOKt mt tX3_byDoubles 357 69 b_X3_byDoubles_69 := by
  refine bplain (pc' := 70) rfl dX3_byDoubles_69 rfl (ihN rfl) rfl ?_
  refine bplain (pc' := 72) rfl dX3_byDoubles_70 rfl (ihN rfl) rfl ?_
  refine bplain (pc' := 73) rfl dX3_byDoubles_72 rfl (ihN rfl) rfl ?_
  refine bobj (pc' := 76) rfl dX3_byDoubles_73 rfl (lkq1 rfl q3118) (ihN rfl) rfl ?_
  refine bplain (pc' := 77) rfl dX3_byDoubles_76 rfl (ihN rfl) rfl ?_
  refine bret (pc' := 78) rfl dX3_byDoubles_77 rfl (rfl) (ihN rfl) rfl ?_
  exact trivial
theorem bf_X3_byDoubles_78 : BOKt mt tX3_byDoubles 357 78 b_X3_byDoubles_78 := by
  refine bplain (pc' := 79) rfl dX3_byDoubles_78 rfl (ihN rfl) rfl ?_
  refine bplain (pc' := 81) rfl dX3_byDoubles_79 rfl (ihN rfl) rfl ?_
  refine bplain (pc' := 82) rfl dX3_byDoubles_81 rfl (ihN rfl) rfl ?_
  refine bobj (pc' := 85) rfl dX3_byDoubles_82 rfl (lkq1 rfl q3118) (ihN rfl) rfl ?_
  refine bplain (pc' := 86) rfl dX3_byDoubles_85 rfl (ihN rfl) rfl ?_
  refine bret (pc' := 87) rfl dX3_byDoubles_86 rfl (rfl) (ihN rfl) rfl ?_
  exact trivial
theorem bf_X3_byDoubles_87 : BOKt mt tX3_byDoubles 357 87 b_X3_byDoubles_87 := by
  refine bplain (pc' := 89) rfl dX3_byDoubles_87 rfl (ihN rfl) rfl ?_
  refine bplain (pc' := 90) rfl dX3_byDoubles_89 rfl (ihN rfl) rfl ?_
  refine bplain (pc' := 91) rfl dX3_byDoubles_90 rfl (ihN rfl) rfl ?_
  refine bjmp (tg := 98) (pc' := 94) rfl (by decide) (by decide) rfl dX3_byDoubles_91 rfl (ihN rfl) rfl ?_
  refine bplain (pc' := 95) rfl dX3_byDoubles_94 rfl (ihN rfl) rfl ?_
  refine bjmp (tg := 102) (pc' := 98) rfl (by decide) (by decide) rfl dX3_byDoubles_95 rfl (ihN rfl) rfl ?_
  exact trivial
theorem bf_X3_byDoubles_98 : BOKt mt tX3_byDoubles 357 98 b_X3_byDoubles_98 := by
  refine bplain (pc' := 99) rfl dX3_byDoubles_98 rfl (ihN rfl) rfl ?_
  refine bplain (pc' := 101) rfl dX3_byDoubles_99 rfl (ihN rfl) rfl ?_
  refine bplain (pc' := 102) rfl dX3_byDoubles_101 rfl (ihN rfl) rfl ?_
  exact bnop0 rfl (by decide)
theorem bf_X3_byDoubles_102 : BOKt mt tX3_byDoubles 357 102 b_X3_byDoubles_102 := by
  refine bnop1 ?_
  refine bret (pc' := 103) rfl dX3_byDoubles_102 rfl (rfl) (ihN rfl) rfl ?_
  exact trivial
theorem bf_X3_byDoubles_103 : BOKt mt tX3_byDoubles 357 103 b_X3_byDoubles_103 := by
  refine bplain (pc' := 104) rfl dX3_byDoubles_103 rfl (ihN rfl) rfl ?_
  refine bplain (pc' := 106) rfl dX3_byDoubles_104 rfl (ihN rfl) rfl ?_
  refine bplain (pc' := 107) rfl dX3_byDoubles_106 rfl (ihN rfl) rfl ?_
  refine bjmp (tg := 114) (pc' := 110) rfl (by decide) (by decide) rfl dX3_byDoubles_107 rfl (ihN rfl) rfl ?_
  refine bplain (pc' := 111) rfl dX3_byDoubles_110 rfl (ihN rfl) rfl ?_
  refine bjmp (tg := 116) (pc' := 114) rfl (by decide) (by decide) rfl dX3_byDoubles_111 rfl (ihN rfl) rfl ?_
  exact trivial
theorem bf_X3_byDoubles_114 : BOKt mt tX3_byDoubles 357 114 b_X3_byDoubles_114 := by
  refine bplain (pc' := 116) rfl dX3_byDoubles_114 rfl (ihN rfl) rfl ?_
  exact bnop0 rfl (by decide)
theorem bf_X3_byDoubles_116 : BOKt mt tX3_byDoubles 357 116 b_X3_byDoubles_116 := by
  refine bnop1 ?_
  refine bret (pc' := 117) rfl dX3_byDoubles_116 rfl (rfl) (ihN rfl) rfl ?_
  exact trivial
theorem bf_X3_byDoubles_117 : BOKt mt tX3_byDoubles 357 117 b_X3_byDoubles_117 := by
  refine bplain (pc' := 118) rfl dX3_byDoubles_117 rfl (ihN rfl) rfl ?_
  refine bplain (pc' := 120) rfl dX3_byDoubles_118 rfl (ihN rfl) rfl ?_
  refine bplain (pc' := 121) rfl dX3_byDoubles_120 rfl (ihN rfl) rfl ?_
  refine bjmp (tg := 128) (pc' := 124) rfl (by decide) (by decide) rfl dX3_byDoubles_121 rfl (ihN rfl) rfl ?_
  refine bplain (pc' := 125) rfl dX3_byDoubles_124 rfl (ihN rfl) rfl ?_
  refine bjmp (tg := 130) (pc' := 128) rfl (by decide) (by decide) rfl dX3_byDoubles_125 rfl (ihN rfl) rfl ?_
  exact trivial
theorem bf_X3_byDoubles_128 : BOKt mt tX3_byDoubles 357 128 b_X3_byDoubles_128 := by
  refine bplain (pc' := 130) rfl dX3_byDoubles_128 rfl (ihN rfl) rfl ?_
  exact bnop0 rfl (by decide)
theorem bf_X3_byDoubles_130 : BOKt mt tX3_byDoubles 357 130 b_X3_byDoubles_130 := by
  refine bnop1 ?_
  refine bret (pc' := 131) rfl dX3_byDoubles_130 rfl (rfl) (ihN rfl) rfl ?_
  exact trivial
theorem bf_X3_byDoubles_131 : BOKt mt tX3_byDoubles 357 131 b_X3_byDoubles_131 := by
  refine bplain (pc' := 132) rfl dX3_byDoubles_131 rfl (ihN rfl) rfl ?_
  refine bplain (pc' := 133) rfl dX3_byDoubles_132 rfl (ihN rfl) rfl ?_
  refine bplain (pc' := 135) rfl dX3_byDoubles_133 rfl (ihN rfl) rfl ?_
  refine bplain (pc' := 136) rfl dX3_byDoubles_135 rfl (ihN rfl) rfl ?_
  refine bjmp (tg := 143) (pc' := 139) rfl (by decide) (by decide) rfl dX3_byDoubles_136 rfl (ihN rfl) rfl ?_
  refine bplain (pc' := 140) rfl dX3_byDoubles_139 rfl (ihN rfl) rfl ?_
  refine bjmp (tg := 144) (pc' := 143) rfl (by decide) (by decide) rfl dX3_byDoubles_140 rfl (ihN rfl) rfl ?_
  exact trivial
theorem bf_X3_byDoubles_143 : BOKt mt tX3_byDoubles 357 143 b_X3_byDoubles_143 := by
  refine bplain (pc' := 144) rfl dX3_byDoubles_143 rfl (ihN rfl) rfl ?_
  exact bnop0 rfl (by decide)
theorem bf_X3_byDoubles_144 : BOKt mt tX3_byDoubles 357 144 b_X3_byDoubles_144 := by
  refine bnop1 ?_
  refine bobj (pc' := 147) rfl dX3_byDoubles_144 rfl (⟨lkf0 q2636 lf_552, lkp0 lp_553⟩) (ihN rfl) rfl ?_
  refine bplain (pc' := 148) rfl dX3_byDoubles_147 rfl (ihN rfl) rfl ?_
  refine bret (pc' := 149) rfl dX3_byDoubles_148 rfl (rfl) (ihN rfl) rfl ?_
  exact trivial
theorem bf_X3_byDoubles_149 : BOKt mt tX3_byDoubles 357 149 b_X3_byDoubles_149 := by
  refine bnop1 ?_
  refine bplain (pc' := 150) rfl dX3_byDoubles_149 rfl (ihN rfl) rfl ?_
  refine bret (pc' := 151) rfl dX3_byDoubles_150 rfl (rfl) (ihN rfl) rfl ?_
  exact trivial
theorem tf_X3_byDoubles : ∀ x ∈ tb_X3_byDoubles, BOK mt 357 x.1 x.2 := tb_c mt_X3_byDoubles bf_X3_byDoubles_0 (tb_c mt_X3_byDoubles bf_X3_byDoubles_60 (tb_c mt_X3_byDoubles bf_X3_byDoubles_69 (tb_c mt_X3_byDoubles bf_X3_byDoubles_78 (tb_c mt_X3_byDoubles bf_X3_byDoubles_87 (tb_c mt_X3_byDoubles bf_X3_byDoubles_98 (tb_c mt_X3_byDoubles bf_X3_byDoubles_102 (tb_c mt_X3_byDoubles bf_X3_byDoubles_103 (tb_c mt_X3_byDoubles bf_X3_byDoubles_114 (tb_c mt_X3_byDoubles bf_X3_byDoubles_116 (tb_c mt_X3_byDoubles bf_X3_byDoubles_117 (tb_c mt_X3_byDoubles bf_X3_byDoubles_128 (tb_c mt_X3_byDoubles bf_X3_byDoubles_130 (tb_c mt_X3_byDoubles bf_X3_byDoubles_131 (tb_c mt_X3_byDoubles bf_X3_byDoubles_143 (tb_c mt_X3_byDoubles bf_X3_byDoubles_144 (tb_c mt_X3_byDoubles bf_X3_byDoubles_149 (tb_n)))))))))))))))))
theorem bf_X3_does_0 : BOKt mt tX3_does 358 0 b_X3_does_0 := by
  refine bplain (pc' := 1) rfl dX3_does_0 rfl (ihN rfl) rfl ?_
  refine bplain (pc' := 2) rfl dX3_does_1 rfl (ihN rfl) rfl ?_
  refine bobj (pc' := 5) rfl dX3_does_2 rfl (⟨lkf0 q2636 lf_552, lkp0 lp_553⟩) (ihN rfl) rfl ?_
  refine bplain (pc' := 6) rfl dX3_does_5 rfl (ihN rfl) rfl ?_
  refine bthr (pc' := 9) rfl dX3_does_6 rfl (lkf0 q2605 lf_155) (trivial) (ihN rfl) rfl ?_
  refine bplain (pc' := 10) rfl dX3_does_9 rfl (ihN rfl) rfl ?_
  refine bplain (pc' := 11) rfl dX3_does_10 rfl (ihN rfl) rfl ?_
  refine bplain (pc' := 13) rfl dX3_does_11 rfl (ihN rfl) rfl ?_
  refine bplain (pc' := 14) rfl dX3_does_13 rfl (ihN rfl) rfl ?_
  refine bplain (pc' := 15) rfl dX3_does_14 rfl (ihN rfl) rfl ?_
  refine bcall (pc' := 18) rfl dX3_does_15 rfl (trivial) (lcv (n := 1) rfl (pvc (lfv mt_X3_widthOf ⟨by decide, by decide⟩ mok_X3_widthOf ⟨by decide, by decide⟩ ⟨q3091, ln_225, Or.inl ⟨q3089, Or.inl qs116⟩⟩) (trivial)) (Or.inl (by decide))) (ihN rfl) rfl ?_
  exact bsw rfl dX3_does_18 (swl (by decide +kernel) (by decide) (by decide) (by decide +kernel) (by decide +kernel)) (by decide +kernel) (ihN rfl)
theorem bf_X3_does_44 : BOKt mt tX3_does 358 44 b_X3_does_44 := by
  refine bplain (pc' := 45) rfl dX3_does_44 rfl (ihN rfl) rfl ?_
  refine bplain (pc' := 47) rfl dX3_does_45 rfl (ihN rfl) rfl ?_
  refine bplain (pc' := 48) rfl dX3_does_47 rfl (ihN rfl) rfl ?_
  refine bplain (pc' := 49) rfl dX3_does_48 rfl (ihN rfl) rfl ?_
  refine bplain (pc' := 51) rfl dX3_does_49 rfl (ihN rfl) rfl ?_
  refine bplain (pc' := 52) rfl dX3_does_51 rfl (ihN rfl) rfl ?_
  refine bcall (pc' := 55) rfl dX3_does_52 rfl (trivial) (lcv (n := 3) rfl (pvc (lfv mt_X3_byInts ⟨by decide, by decide⟩ mok_X3_byInts ⟨by decide, by decide⟩ ⟨q3099, ln_255, Or.inl ⟨q3097, Or.inl qs118⟩⟩) (trivial)) (Or.inl (by decide))) (ihN rfl) rfl ?_
  refine bplain (pc' := 56) rfl dX3_does_55 rfl (ihN rfl) rfl ?_
  refine bret (pc' := 57) rfl dX3_does_56 rfl (rfl) (ihN rfl) rfl ?_
  exact trivial
theorem bf_X3_does_57 : BOKt mt tX3_does 358 57 b_X3_does_57 := by
  refine bplain (pc' := 58) rfl dX3_does_57 rfl (ihN rfl) rfl ?_
  refine bplain (pc' := 60) rfl dX3_does_58 rfl (ihN rfl) rfl ?_
  refine bplain (pc' := 61) rfl dX3_does_60 rfl (ihN rfl) rfl ?_
  refine bplain (pc' := 62) rfl dX3_does_61 rfl (ihN rfl) rfl ?_
  refine bplain (pc' := 64) rfl dX3_does_62 rfl (ihN rfl) rfl ?_
  refine bplain (pc' := 65) rfl dX3_does_64 rfl (ihN rfl) rfl ?_
  refine bcall (pc' := 68) rfl dX3_does_65 rfl (trivial) (lcv (n := 3) rfl (pvc (lfv mt_X3_byFloats ⟨by decide, by decide⟩ mok_X3_byFloats ⟨by decide, by decide⟩ ⟨q3108, ln_555, Or.inl ⟨q3106, Or.inl qs119⟩⟩) (trivial)) (Or.inl (by decide))) (ihN rfl) rfl ?_
  refine bplain (pc' := 69) rfl dX3_does_68 rfl (ihN rfl) rfl ?_
  refine bcall (pc' := 72) rfl dX3_does_69 rfl (trivial) (lcs (l := q3112) mt_X3_zeroed ⟨by decide, by decide⟩ mok_X3_zeroed rfl ln_532 (Or.inl q3111)) (ihN rfl) rfl ?_
  refine bret (pc' := 73) rfl dX3_does_72 rfl (rfl) (ihN rfl) rfl ?_
  exact trivial
theorem bf_X3_does_73 : BOKt mt tX3_does 358 73 b_X3_does_73 := by
  refine bplain (pc' := 74) rfl dX3_does_73 rfl (ihN rfl) rfl ?_
  refine bplain (pc' := 76) rfl dX3_does_74 rfl (ihN rfl) rfl ?_
  refine bplain (pc' := 77) rfl dX3_does_76 rfl (ihN rfl) rfl ?_
  refine bplain (pc' := 79) rfl dX3_does_77 rfl (ihN rfl) rfl ?_
  refine bcall (pc' := 82) rfl dX3_does_79 rfl (trivial) (lcv (n := 3) rfl (pvc (lfv mt_X3_byDoubles ⟨by decide, by decide⟩ mok_X3_byDoubles ⟨by decide, by decide⟩ ⟨q3116, ln_556, Or.inl ⟨q3114, Or.inl qs120⟩⟩) (trivial)) (Or.inl (by decide))) (ihN rfl) rfl ?_
  refine bcall (pc' := 85) rfl dX3_does_82 rfl (trivial) (lcs (l := q3112) mt_X3_zeroed ⟨by decide, by decide⟩ mok_X3_zeroed rfl ln_532 (Or.inl q3111)) (ihN rfl) rfl ?_
  refine bret (pc' := 86) rfl dX3_does_85 rfl (rfl) (ihN rfl) rfl ?_
  exact trivial
theorem tf_X3_does : ∀ x ∈ tb_X3_does, BOK mt 358 x.1 x.2 := tb_c mt_X3_does bf_X3_does_0 (tb_c mt_X3_does bf_X3_does_44 (tb_c mt_X3_does bf_X3_does_57 (tb_c mt_X3_does bf_X3_does_73 (tb_n))))
theorem bf_X3_castTo_0 : BOKt mt tX3_castTo 359 0 b_X3_castTo_0 := by
  refine bplain (pc' := 1) rfl dX3_castTo_0 rfl (ihN rfl) rfl ?_
  exact bsw rfl dX3_castTo_1 (swt (by decide) (by decide) (by decide) (by decide) (by decide +kernel) (by decide +kernel)) (by decide +kernel) (ihN rfl)
theorem bf_X3_castTo_28 : BOKt mt tX3_castTo 359 28 b_X3_castTo_28 := by
  refine bplain (pc' := 29) rfl dX3_castTo_28 rfl (ihN rfl) rfl ?_
  refine bplain (pc' := 30) rfl dX3_castTo_29 rfl (ihN rfl) rfl ?_
  refine bplain (pc' := 31) rfl dX3_castTo_30 rfl (ihN rfl) rfl ?_
  refine bplain (pc' := 32) rfl dX3_castTo_31 rfl (ihN rfl) rfl ?_
  refine bret (pc' := 33) rfl dX3_castTo_32 rfl (rfl) (ihN rfl) rfl ?_
  exact trivial
theorem bf_X3_castTo_33 : BOKt mt tX3_castTo 359 33 b_X3_castTo_33 := by
  refine bplain (pc' := 34) rfl dX3_castTo_33 rfl (ihN rfl) rfl ?_
  refine bplain (pc' := 35) rfl dX3_castTo_34 rfl (ihN rfl) rfl ?_
  refine bplain (pc' := 36) rfl dX3_castTo_35 rfl (ihN rfl) rfl ?_
  refine bret (pc' := 37) rfl dX3_castTo_36 rfl (rfl) (ihN rfl) rfl ?_
  exact trivial
theorem bf_X3_castTo_37 : BOKt mt tX3_castTo 359 37 b_X3_castTo_37 := by
  refine bplain (pc' := 38) rfl dX3_castTo_37 rfl (ihN rfl) rfl ?_
  refine bplain (pc' := 39) rfl dX3_castTo_38 rfl (ihN rfl) rfl ?_
  refine bplain (pc' := 40) rfl dX3_castTo_39 rfl (ihN rfl) rfl ?_
  refine bcall (pc' := 43) rfl dX3_castTo_40 rfl (trivial) (lcs (l := q3112) mt_X3_zeroed ⟨by decide, by decide⟩ mok_X3_zeroed rfl ln_532 (Or.inl q3111)) (ihN rfl) rfl ?_
  refine bret (pc' := 44) rfl dX3_castTo_43 rfl (rfl) (ihN rfl) rfl ?_
  exact trivial
theorem bf_X3_castTo_44 : BOKt mt tX3_castTo 359 44 b_X3_castTo_44 := by
  refine bplain (pc' := 45) rfl dX3_castTo_44 rfl (ihN rfl) rfl ?_
  refine bret (pc' := 46) rfl dX3_castTo_45 rfl (rfl) (ihN rfl) rfl ?_
  exact trivial
theorem tf_X3_castTo : ∀ x ∈ tb_X3_castTo, BOK mt 359 x.1 x.2 := tb_c mt_X3_castTo bf_X3_castTo_0 (tb_c mt_X3_castTo bf_X3_castTo_28 (tb_c mt_X3_castTo bf_X3_castTo_33 (tb_c mt_X3_castTo bf_X3_castTo_37 (tb_c mt_X3_castTo bf_X3_castTo_44 (tb_n)))))
theorem bf_X3_writes_0 : BOKt mt tX3_writes 360 0 b_X3_writes_0 := by
  refine bplain (pc' := 1) rfl dX3_writes_0 rfl (ihN rfl) rfl ?_
  refine bthr (pc' := 4) rfl dX3_writes_1 rfl (lkf0 q2630 lf_549) (trivial) (ihN rfl) rfl ?_
  refine bjmp (tg := 19) (pc' := 7) rfl (by decide) (by decide) rfl dX3_writes_4 rfl (ihN rfl) rfl ?_
  refine bplain (pc' := 8) rfl dX3_writes_7 rfl (ihN rfl) rfl ?_
  refine bthr (pc' := 11) rfl dX3_writes_8 rfl (lkf0 q2626 lf_183) (trivial) (ihN rfl) rfl ?_
  refine bplain (pc' := 12) rfl dX3_writes_11 rfl (ihN rfl) rfl ?_
  refine bplain (pc' := 14) rfl dX3_writes_12 rfl (ihN rfl) rfl ?_
  refine bplain (pc' := 15) rfl dX3_writes_14 rfl (ihN rfl) rfl ?_
  refine bplain (pc' := 16) rfl dX3_writes_15 rfl (ihN rfl) rfl ?_
  refine bjmp (tg := 20) (pc' := 19) rfl (by decide) (by decide) rfl dX3_writes_16 rfl (ihN rfl) rfl ?_
  exact trivial
theorem bf_X3_writes_19 : BOKt mt tX3_writes 360 19 b_X3_writes_19 := by
  refine bplain (pc' := 20) rfl dX3_writes_19 rfl (ihN rfl) rfl ?_
  exact bnop0 rfl (by decide)
theorem bf_X3_writes_20 : BOKt mt tX3_writes 360 20 b_X3_writes_20 := by
  refine bnop1 ?_
  refine bplain (pc' := 22) rfl dX3_writes_20 rfl (ihN rfl) rfl ?_
  refine bplain (pc' := 24) rfl dX3_writes_22 rfl (ihN rfl) rfl ?_
  refine bplain (pc' := 25) rfl dX3_writes_24 rfl (ihN rfl) rfl ?_
  refine bjmp (tg := 57) (pc' := 28) rfl (by decide) (by decide) rfl dX3_writes_25 rfl (ihN rfl) rfl ?_
  refine bplain (pc' := 29) rfl dX3_writes_28 rfl (ihN rfl) rfl ?_
  refine bthr (pc' := 32) rfl dX3_writes_29 rfl (lkf0 q2628 lf_187) (trivial) (ihN rfl) rfl ?_
  refine bplain (pc' := 35) rfl dX3_writes_32 rfl (ihN rfl) rfl ?_
  refine bplain (pc' := 36) rfl dX3_writes_35 rfl (ihN rfl) rfl ?_
  refine bplain (pc' := 37) rfl dX3_writes_36 rfl (ihN rfl) rfl ?_
  refine bplain (pc' := 38) rfl dX3_writes_37 rfl (ihN rfl) rfl ?_
  refine bplain (pc' := 39) rfl dX3_writes_38 rfl (ihN rfl) rfl ?_
  refine bplain (pc' := 40) rfl dX3_writes_39 rfl (ihN rfl) rfl ?_
  refine bplain (pc' := 41) rfl dX3_writes_40 rfl (ihN rfl) rfl ?_
  refine bplain (pc' := 42) rfl dX3_writes_41 rfl (ihN rfl) rfl ?_
  refine bthr (pc' := 45) rfl dX3_writes_42 rfl (lkf0 q2629 lf_189) (trivial) (ihN rfl) rfl ?_
  refine bplain (pc' := 48) rfl dX3_writes_45 rfl (ihN rfl) rfl ?_
  refine bplain (pc' := 49) rfl dX3_writes_48 rfl (ihN rfl) rfl ?_
  refine bplain (pc' := 50) rfl dX3_writes_49 rfl (ihN rfl) rfl ?_
  refine bplain (pc' := 51) rfl dX3_writes_50 rfl (ihN rfl) rfl ?_
  refine bplain (pc' := 52) rfl dX3_writes_51 rfl (ihN rfl) rfl ?_
  refine bplain (pc' := 53) rfl dX3_writes_52 rfl (ihN rfl) rfl ?_
  refine bplain (pc' := 54) rfl dX3_writes_53 rfl (ihN rfl) rfl ?_
  refine bjmp (tg := 96) (pc' := 57) rfl (by decide) (by decide) rfl dX3_writes_54 rfl (ihN rfl) rfl ?_
  exact trivial
theorem bf_X3_writes_57 : BOKt mt tX3_writes 360 57 b_X3_writes_57 := by
  refine bplain (pc' := 58) rfl dX3_writes_57 rfl (ihN rfl) rfl ?_
  refine bthr (pc' := 61) rfl dX3_writes_58 rfl (lkf0 q2599 lf_149) (trivial) (ihN rfl) rfl ?_
  refine bplain (pc' := 62) rfl dX3_writes_61 rfl (ihN rfl) rfl ?_
  refine bplain (pc' := 63) rfl dX3_writes_62 rfl (ihN rfl) rfl ?_
  refine bplain (pc' := 64) rfl dX3_writes_63 rfl (ihN rfl) rfl ?_
  refine bplain (pc' := 65) rfl dX3_writes_64 rfl (ihN rfl) rfl ?_
  refine bthr (pc' := 68) rfl dX3_writes_65 rfl (lkf0 q2600 lf_151) (trivial) (ihN rfl) rfl ?_
  refine bplain (pc' := 69) rfl dX3_writes_68 rfl (ihN rfl) rfl ?_
  refine bplain (pc' := 71) rfl dX3_writes_69 rfl (ihN rfl) rfl ?_
  refine bplain (pc' := 72) rfl dX3_writes_71 rfl (ihN rfl) rfl ?_
  refine bjmp (tg := 94) (pc' := 75) rfl (by decide) (by decide) rfl dX3_writes_72 rfl (ihN rfl) rfl ?_
  refine bplain (pc' := 76) rfl dX3_writes_75 rfl (ihN rfl) rfl ?_
  refine bthr (pc' := 79) rfl dX3_writes_76 rfl (lkf0 q2600 lf_151) (trivial) (ihN rfl) rfl ?_
  refine bplain (pc' := 80) rfl dX3_writes_79 rfl (ihN rfl) rfl ?_
  refine bplain (pc' := 81) rfl dX3_writes_80 rfl (ihN rfl) rfl ?_
  refine bplain (pc' := 82) rfl dX3_writes_81 rfl (ihN rfl) rfl ?_
  refine bjmp (tg := 94) (pc' := 85) rfl (by decide) (by decide) rfl dX3_writes_82 rfl (ihN rfl) rfl ?_
  refine bplain (pc' := 86) rfl dX3_writes_85 rfl (ihN rfl) rfl ?_
  refine bthr (pc' := 89) rfl dX3_writes_86 rfl (lkf0 q2600 lf_151) (trivial) (ihN rfl) rfl ?_
  refine bplain (pc' := 90) rfl dX3_writes_89 rfl (ihN rfl) rfl ?_
  refine bplain (pc' := 91) rfl dX3_writes_90 rfl (ihN rfl) rfl ?_
  refine bjmp (tg := 95) (pc' := 94) rfl (by decide) (by decide) rfl dX3_writes_91 rfl (ihN rfl) rfl ?_
  exact trivial
theorem bf_X3_writes_94 : BOKt mt tX3_writes 360 94 b_X3_writes_94 := by
  refine bnop1 ?_
  refine bplain (pc' := 95) rfl dX3_writes_94 rfl (ihN rfl) rfl ?_
  exact bnop0 rfl (by decide)
theorem bf_X3_writes_95 : BOKt mt tX3_writes 360 95 b_X3_writes_95 := by
  refine bnop1 ?_
  refine bplain (pc' := 96) rfl dX3_writes_95 rfl (ihN rfl) rfl ?_
  exact bnop0 rfl (by decide)
theorem bf_X3_writes_96 : BOKt mt tX3_writes 360 96 b_X3_writes_96 := by
  refine bnop1 ?_
  refine bret (pc' := 97) rfl dX3_writes_96 rfl (rfl) (ihN rfl) rfl ?_
  exact trivial
theorem tf_X3_writes : ∀ x ∈ tb_X3_writes, BOK mt 360 x.1 x.2 := tb_c mt_X3_writes bf_X3_writes_0 (tb_c mt_X3_writes bf_X3_writes_19 (tb_c mt_X3_writes bf_X3_writes_20 (tb_c mt_X3_writes bf_X3_writes_57 (tb_c mt_X3_writes bf_X3_writes_94 (tb_c mt_X3_writes bf_X3_writes_95 (tb_c mt_X3_writes bf_X3_writes_96 (tb_n)))))))
theorem bf_X3_item_0 : BOKt mt tX3_item 361 0 b_X3_item_0 := by
  refine bplain (pc' := 1) rfl dX3_item_0 rfl (ihN rfl) rfl ?_
  refine bplain (pc' := 2) rfl dX3_item_1 rfl (ihN rfl) rfl ?_
  refine bobj (pc' := 5) rfl dX3_item_2 rfl (⟨lkf0 q2635 lf_547, lkp0 lp_548⟩) (ihN rfl) rfl ?_
  refine bplain (pc' := 6) rfl dX3_item_5 rfl (ihN rfl) rfl ?_
  refine bplain (pc' := 7) rfl dX3_item_6 rfl (ihN rfl) rfl ?_
  refine bplain (pc' := 8) rfl dX3_item_7 rfl (ihN rfl) rfl ?_
  refine bplain (pc' := 9) rfl dX3_item_8 rfl (ihN rfl) rfl ?_
  refine bplain (pc' := 10) rfl dX3_item_9 rfl (ihN rfl) rfl ?_
  refine bplain (pc' := 11) rfl dX3_item_10 rfl (ihN rfl) rfl ?_
  refine bplain (pc' := 12) rfl dX3_item_11 rfl (ihN rfl) rfl ?_
  refine bplain (pc' := 13) rfl dX3_item_12 rfl (ihN rfl) rfl ?_
  refine bcall (pc' := 16) rfl dX3_item_13 rfl (trivial) (lcv (n := 3) rfl (pvc (lfv mt_X3_read ⟨by decide, by decide⟩ mok_X3_read ⟨by decide, by decide⟩ ⟨q3079, ln_557, Or.inl ⟨q3077, Or.inl qs113⟩⟩) (trivial)) (Or.inl (by decide))) (ihN rfl) rfl ?_
  refine bplain (pc' := 18) rfl dX3_item_16 rfl (ihN rfl) rfl ?_
  refine bplain (pc' := 19) rfl dX3_item_18 rfl (ihN rfl) rfl ?_
  refine bthr (pc' := 22) rfl dX3_item_19 rfl (lkf0 q2635 lf_547) (trivial) (ihN rfl) rfl ?_
  refine bplain (pc' := 23) rfl dX3_item_22 rfl (ihN rfl) rfl ?_
  refine bjmp (tg := 40) (pc' := 26) rfl (by decide) (by decide) rfl dX3_item_23 rfl (ihN rfl) rfl ?_
  refine bplain (pc' := 27) rfl dX3_item_26 rfl (ihN rfl) rfl ?_
  refine bplain (pc' := 28) rfl dX3_item_27 rfl (ihN rfl) rfl ?_
  refine bplain (pc' := 29) rfl dX3_item_28 rfl (ihN rfl) rfl ?_
  refine bplain (pc' := 30) rfl dX3_item_29 rfl (ihN rfl) rfl ?_
  refine bplain (pc' := 31) rfl dX3_item_30 rfl (ihN rfl) rfl ?_
  refine bplain (pc' := 32) rfl dX3_item_31 rfl (ihN rfl) rfl ?_
  refine bplain (pc' := 33) rfl dX3_item_32 rfl (ihN rfl) rfl ?_
  refine bplain (pc' := 34) rfl dX3_item_33 rfl (ihN rfl) rfl ?_
  refine bcall (pc' := 37) rfl dX3_item_34 rfl (trivial) (lcv (n := 3) rfl (pvc (lfv mt_X3_read ⟨by decide, by decide⟩ mok_X3_read ⟨by decide, by decide⟩ ⟨q3079, ln_557, Or.inl ⟨q3077, Or.inl qs113⟩⟩) (trivial)) (Or.inl (by decide))) (ihN rfl) rfl ?_
  refine bjmp (tg := 41) (pc' := 40) rfl (by decide) (by decide) rfl dX3_item_37 rfl (ihN rfl) rfl ?_
  exact trivial
theorem bf_X3_item_40 : BOKt mt tX3_item 361 40 b_X3_item_40 := by
  refine bplain (pc' := 41) rfl dX3_item_40 rfl (ihN rfl) rfl ?_
  exact bnop0 rfl (by decide)
theorem bf_X3_item_41 : BOKt mt tX3_item 361 41 b_X3_item_41 := by
  refine bnop1 ?_
  refine bplain (pc' := 43) rfl dX3_item_41 rfl (ihN rfl) rfl ?_
  refine bplain (pc' := 44) rfl dX3_item_43 rfl (ihN rfl) rfl ?_
  refine bplain (pc' := 45) rfl dX3_item_44 rfl (ihN rfl) rfl ?_
  refine bthr (pc' := 48) rfl dX3_item_45 rfl (lkf0 q2635 lf_547) (trivial) (ihN rfl) rfl ?_
  refine bplain (pc' := 49) rfl dX3_item_48 rfl (ihN rfl) rfl ?_
  refine bjmp (tg := 64) (pc' := 52) rfl (by decide) (by decide) rfl dX3_item_49 rfl (ihN rfl) rfl ?_
  refine bplain (pc' := 53) rfl dX3_item_52 rfl (ihN rfl) rfl ?_
  refine bplain (pc' := 54) rfl dX3_item_53 rfl (ihN rfl) rfl ?_
  refine bplain (pc' := 55) rfl dX3_item_54 rfl (ihN rfl) rfl ?_
  refine bplain (pc' := 56) rfl dX3_item_55 rfl (ihN rfl) rfl ?_
  refine bplain (pc' := 57) rfl dX3_item_56 rfl (ihN rfl) rfl ?_
  refine bplain (pc' := 58) rfl dX3_item_57 rfl (ihN rfl) rfl ?_
  refine bcall (pc' := 61) rfl dX3_item_58 rfl (trivial) (lcv (n := 3) rfl (pvc (lfv mt_X3_lacksPlace ⟨by decide, by decide⟩ mok_X3_lacksPlace ⟨by decide, by decide⟩ ⟨q3083, ln_255, Or.inl ⟨q3081, Or.inl qs114⟩⟩) (trivial)) (Or.inl (by decide))) (ihN rfl) rfl ?_
  refine bjmp (tg := 68) (pc' := 64) rfl (by decide) (by decide) rfl dX3_item_61 rfl (ihN rfl) rfl ?_
  exact trivial
theorem bf_X3_item_64 : BOKt mt tX3_item 361 64 b_X3_item_64 := by
  refine bplain (pc' := 65) rfl dX3_item_64 rfl (ihN rfl) rfl ?_
  refine bthr (pc' := 68) rfl dX3_item_65 rfl (lkf0 q2635 lf_547) (trivial) (ihN rfl) rfl ?_
  exact bnop0 rfl (by decide)
theorem bf_X3_item_68 : BOKt mt tX3_item 361 68 b_X3_item_68 := by
  refine bnop1 ?_
  refine bobj (pc' := 71) rfl dX3_item_68 rfl (⟨lkf0 q2635 lf_547, lkp0 lp_548⟩) (ihN rfl) rfl ?_
  refine bplain (pc' := 72) rfl dX3_item_71 rfl (ihN rfl) rfl ?_
  refine bthr (pc' := 75) rfl dX3_item_72 rfl (lkf0 q2635 lf_547) (trivial) (ihN rfl) rfl ?_
  refine bplain (pc' := 76) rfl dX3_item_75 rfl (ihN rfl) rfl ?_
  refine bjmp (tg := 91) (pc' := 79) rfl (by decide) (by decide) rfl dX3_item_76 rfl (ihN rfl) rfl ?_
  refine bplain (pc' := 80) rfl dX3_item_79 rfl (ihN rfl) rfl ?_
  refine bplain (pc' := 81) rfl dX3_item_80 rfl (ihN rfl) rfl ?_
  refine bplain (pc' := 83) rfl dX3_item_81 rfl (ihN rfl) rfl ?_
  refine bplain (pc' := 85) rfl dX3_item_83 rfl (ihN rfl) rfl ?_
  refine bcall (pc' := 88) rfl dX3_item_85 rfl (trivial) (lcv (n := 3) rfl (pvc (lfv mt_X3_does ⟨by decide, by decide⟩ mok_X3_does ⟨by decide, by decide⟩ ⟨q3087, ln_556, Or.inl ⟨q3085, Or.inl qs115⟩⟩) (trivial)) (Or.inl (by decide))) (ihN rfl) rfl ?_
  refine bjmp (tg := 92) (pc' := 91) rfl (by decide) (by decide) rfl dX3_item_88 rfl (ihN rfl) rfl ?_
  exact trivial
theorem bf_X3_item_91 : BOKt mt tX3_item 361 91 b_X3_item_91 := by
  refine bplain (pc' := 92) rfl dX3_item_91 rfl (ihN rfl) rfl ?_
  exact bnop0 rfl (by decide)
theorem bf_X3_item_92 : BOKt mt tX3_item 361 92 b_X3_item_92 := by
  refine bnop1 ?_
  refine bplain (pc' := 94) rfl dX3_item_92 rfl (ihN rfl) rfl ?_
  refine bplain (pc' := 95) rfl dX3_item_94 rfl (ihN rfl) rfl ?_
  refine bthr (pc' := 98) rfl dX3_item_95 rfl (lkf0 q2635 lf_547) (trivial) (ihN rfl) rfl ?_
  refine bplain (pc' := 99) rfl dX3_item_98 rfl (ihN rfl) rfl ?_
  refine bjmp (tg := 117) (pc' := 102) rfl (by decide) (by decide) rfl dX3_item_99 rfl (ihN rfl) rfl ?_
  refine bplain (pc' := 103) rfl dX3_item_102 rfl (ihN rfl) rfl ?_
  refine bthr (pc' := 106) rfl dX3_item_103 rfl (lkf0 q2632 lf_191) (trivial) (ihN rfl) rfl ?_
  refine bplain (pc' := 107) rfl dX3_item_106 rfl (ihN rfl) rfl ?_
  refine bthr (pc' := 110) rfl dX3_item_107 rfl (lkf0 q2635 lf_547) (trivial) (ihN rfl) rfl ?_
  refine bplain (pc' := 111) rfl dX3_item_110 rfl (ihN rfl) rfl ?_
  refine bplain (pc' := 112) rfl dX3_item_111 rfl (ihN rfl) rfl ?_
  refine bplain (pc' := 113) rfl dX3_item_112 rfl (ihN rfl) rfl ?_
  refine bplain (pc' := 114) rfl dX3_item_113 rfl (ihN rfl) rfl ?_
  refine bplain (pc' := 115) rfl dX3_item_114 rfl (ihN rfl) rfl ?_
  refine bplain (pc' := 116) rfl dX3_item_115 rfl (ihN rfl) rfl ?_
  refine bret (pc' := 117) rfl dX3_item_116 rfl (Or.inr ⟨rfl, rfl⟩) (ihN rfl) rfl ?_
  exact trivial
theorem bf_X3_item_117 : BOKt mt tX3_item 361 117 b_X3_item_117 := by
  refine bplain (pc' := 118) rfl dX3_item_117 rfl (ihN rfl) rfl ?_
  refine bthr (pc' := 121) rfl dX3_item_118 rfl (lkf0 q2636 lf_552) (trivial) (ihN rfl) rfl ?_
  refine bjmp (tg := 172) (pc' := 124) rfl (by decide) (by decide) rfl dX3_item_121 rfl (ihN rfl) rfl ?_
  refine bplain (pc' := 126) rfl dX3_item_124 rfl (ihN rfl) rfl ?_
  refine bplain (pc' := 127) rfl dX3_item_126 rfl (ihN rfl) rfl ?_
  refine bthr (pc' := 130) rfl dX3_item_127 rfl (lkf0 q2610 lf_165) (trivial) (ihN rfl) rfl ?_
  refine bplain (pc' := 131) rfl dX3_item_130 rfl (ihN rfl) rfl ?_
  refine bplain (pc' := 132) rfl dX3_item_131 rfl (ihN rfl) rfl ?_
  refine bplain (pc' := 133) rfl dX3_item_132 rfl (ihN rfl) rfl ?_
  refine bplain (pc' := 134) rfl dX3_item_133 rfl (ihN rfl) rfl ?_
  refine bplain (pc' := 135) rfl dX3_item_134 rfl (ihN rfl) rfl ?_
  refine bplain (pc' := 136) rfl dX3_item_135 rfl (ihN rfl) rfl ?_
  refine bplain (pc' := 137) rfl dX3_item_136 rfl (ihN rfl) rfl ?_
  refine bplain (pc' := 138) rfl dX3_item_137 rfl (ihN rfl) rfl ?_
  refine bplain (pc' := 139) rfl dX3_item_138 rfl (ihN rfl) rfl ?_
  refine bplain (pc' := 140) rfl dX3_item_139 rfl (ihN rfl) rfl ?_
  refine bplain (pc' := 141) rfl dX3_item_140 rfl (ihN rfl) rfl ?_
  refine bcall (pc' := 144) rfl dX3_item_141 rfl (trivial) (lcv (n := 3) rfl (pvc (lfv mt_X3_placeOf ⟨by decide, by decide⟩ mok_X3_placeOf ⟨by decide, by decide⟩ ⟨q2893, ln_255, Or.inl ⟨q2891, Or.inl qs79⟩⟩) (trivial)) (Or.inl (by decide))) (ihN rfl) rfl ?_
  refine bplain (pc' := 145) rfl dX3_item_144 rfl (ihN rfl) rfl ?_
  refine bplain (pc' := 147) rfl dX3_item_145 rfl (ihN rfl) rfl ?_
  refine bplain (pc' := 148) rfl dX3_item_147 rfl (ihN rfl) rfl ?_
  refine bplain (pc' := 150) rfl dX3_item_148 rfl (ihN rfl) rfl ?_
  refine bplain (pc' := 151) rfl dX3_item_150 rfl (ihN rfl) rfl ?_
  refine bplain (pc' := 152) rfl dX3_item_151 rfl (ihN rfl) rfl ?_
  refine bthr (pc' := 155) rfl dX3_item_152 rfl (lkf0 q2597 lf_145) (trivial) (ihN rfl) rfl ?_
  refine bplain (pc' := 156) rfl dX3_item_155 rfl (ihN rfl) rfl ?_
  refine bthr (pc' := 159) rfl dX3_item_156 rfl (lkf0 q2610 lf_165) (trivial) (ihN rfl) rfl ?_
  refine bplain (pc' := 160) rfl dX3_item_159 rfl (ihN rfl) rfl ?_
  refine bplain (pc' := 161) rfl dX3_item_160 rfl (ihN rfl) rfl ?_
  refine bplain (pc' := 162) rfl dX3_item_161 rfl (ihN rfl) rfl ?_
  refine bplain (pc' := 163) rfl dX3_item_162 rfl (ihN rfl) rfl ?_
  refine bplain (pc' := 164) rfl dX3_item_163 rfl (ihN rfl) rfl ?_
  refine bplain (pc' := 166) rfl dX3_item_164 rfl (ihN rfl) rfl ?_
  refine bcall (pc' := 169) rfl dX3_item_166 rfl (trivial) (lcs (l := q3120) mt_X3_castTo ⟨by decide, by decide⟩ mok_X3_castTo rfl ln_558 (Or.inl q3119)) (ihN rfl) rfl ?_
  refine bcall (pc' := 172) rfl dX3_item_169 rfl (trivial) (lcv (n := 3) rfl (pvc (lfv mt_X3_writes ⟨by decide, by decide⟩ mok_X3_writes ⟨by decide, by decide⟩ ⟨q3124, ln_559, Or.inl ⟨q3122, Or.inl qs121⟩⟩) (trivial)) (Or.inl (by decide))) (ihN rfl) rfl ?_
  exact bnop0 rfl (by decide)
theorem bf_X3_item_172 : BOKt mt tX3_item 361 172 b_X3_item_172 := by
  refine bnop1 ?_
  refine bplain (pc' := 173) rfl dX3_item_172 rfl (ihN rfl) rfl ?_
  refine bplain (pc' := 174) rfl dX3_item_173 rfl (ihN rfl) rfl ?_
  refine bthr (pc' := 177) rfl dX3_item_174 rfl (lkf0 q2631 lf_543) (trivial) (ihN rfl) rfl ?_
  refine bplain (pc' := 178) rfl dX3_item_177 rfl (ihN rfl) rfl ?_
  refine bplain (pc' := 179) rfl dX3_item_178 rfl (ihN rfl) rfl ?_
  refine bobj (pc' := 182) rfl dX3_item_179 rfl (⟨lkf0 q2631 lf_543, lkp0 lp_544⟩) (ihN rfl) rfl ?_
  refine bplain (pc' := 183) rfl dX3_item_182 rfl (ihN rfl) rfl ?_
  refine bret (pc' := 184) rfl dX3_item_183 rfl (Or.inr ⟨rfl, rfl⟩) (ihN rfl) rfl ?_
  exact trivial
theorem tf_X3_item : ∀ x ∈ tb_X3_item, BOK mt 361 x.1 x.2 := tb_c mt_X3_item bf_X3_item_0 (tb_c mt_X3_item bf_X3_item_40 (tb_c mt_X3_item bf_X3_item_41 (tb_c mt_X3_item bf_X3_item_64 (tb_c mt_X3_item bf_X3_item_68 (tb_c mt_X3_item bf_X3_item_91 (tb_c mt_X3_item bf_X3_item_92 (tb_c mt_X3_item bf_X3_item_117 (tb_c mt_X3_item bf_X3_item_172 (tb_n)))))))))
theorem bf_X3_steps_0 : BOKt mt tX3_steps 362 0 b_X3_steps_0 := by
  refine bplain (pc' := 1) rfl dX3_steps_0 rfl (ihN rfl) rfl ?_
  refine bthr (pc' := 4) rfl dX3_steps_1 rfl (lkf0 q2637 lf_195) (trivial) (ihN rfl) rfl ?_
  refine bplain (pc' := 5) rfl dX3_steps_4 rfl (ihN rfl) rfl ?_
  refine bplain (pc' := 6) rfl dX3_steps_5 rfl (ihN rfl) rfl ?_
  refine bplain (pc' := 8) rfl dX3_steps_6 rfl (ihN rfl) rfl ?_
  refine bplain (pc' := 9) rfl dX3_steps_8 rfl (ihN rfl) rfl ?_
  refine bplain (pc' := 10) rfl dX3_steps_9 rfl (ihN rfl) rfl ?_
  refine bplain (pc' := 11) rfl dX3_steps_10 rfl (ihN rfl) rfl ?_
  refine bthr (pc' := 14) rfl dX3_steps_11 rfl (lkf0 q2637 lf_195) (trivial) (ihN rfl) rfl ?_
  refine bplain (pc' := 15) rfl dX3_steps_14 rfl (ihN rfl) rfl ?_
  refine bplain (pc' := 16) rfl dX3_steps_15 rfl (ihN rfl) rfl ?_
  refine bplain (pc' := 18) rfl dX3_steps_16 rfl (ihN rfl) rfl ?_
  refine bplain (pc' := 19) rfl dX3_steps_18 rfl (ihN rfl) rfl ?_
  refine bplain (pc' := 20) rfl dX3_steps_19 rfl (ihN rfl) rfl ?_
  refine bplain (pc' := 21) rfl dX3_steps_20 rfl (ihN rfl) rfl ?_
  refine bplain (pc' := 22) rfl dX3_steps_21 rfl (ihN rfl) rfl ?_
  refine bplain (pc' := 23) rfl dX3_steps_22 rfl (ihN rfl) rfl ?_
  refine bplain (pc' := 24) rfl dX3_steps_23 rfl (ihN rfl) rfl ?_
  refine bcall (pc' := 27) rfl dX3_steps_24 rfl (trivial) (lcv (n := 3) rfl (pvc (lfv mt_X3_item ⟨by decide, by decide⟩ mok_X3_item ⟨by decide, by decide⟩ ⟨q3075, ln_226, Or.inl ⟨q3073, Or.inl qs112⟩⟩) (trivial)) (Or.inl (by decide))) (ihN rfl) rfl ?_
  refine bplain (pc' := 29) rfl dX3_steps_27 rfl (ihN rfl) rfl ?_
  refine bplain (pc' := 30) rfl dX3_steps_29 rfl (ihN rfl) rfl ?_
  refine bthr (pc' := 33) rfl dX3_steps_30 rfl (lkf0 q2637 lf_195) (trivial) (ihN rfl) rfl ?_
  refine bplain (pc' := 34) rfl dX3_steps_33 rfl (ihN rfl) rfl ?_
  refine bplain (pc' := 36) rfl dX3_steps_34 rfl (ihN rfl) rfl ?_
  refine bjmp (tg := 43) (pc' := 39) rfl (by decide) (by decide) rfl dX3_steps_36 rfl (ihN rfl) rfl ?_
  refine bplain (pc' := 40) rfl dX3_steps_39 rfl (ihN rfl) rfl ?_
  refine bjmp (tg := 74) (pc' := 43) rfl (by decide) (by decide) rfl dX3_steps_40 rfl (ihN rfl) rfl ?_
  exact trivial
theorem bf_X3_steps_43 : BOKt mt tX3_steps 362 43 b_X3_steps_43 := by
  refine bplain (pc' := 44) rfl dX3_steps_43 rfl (ihN rfl) rfl ?_
  refine bplain (pc' := 45) rfl dX3_steps_44 rfl (ihN rfl) rfl ?_
  refine bplain (pc' := 46) rfl dX3_steps_45 rfl (ihN rfl) rfl ?_
  refine bplain (pc' := 47) rfl dX3_steps_46 rfl (ihN rfl) rfl ?_
  refine bthr (pc' := 50) rfl dX3_steps_47 rfl (lkf0 q2606 lf_157) (trivial) (ihN rfl) rfl ?_
  refine bplain (pc' := 51) rfl dX3_steps_50 rfl (ihN rfl) rfl ?_
  refine bplain (pc' := 52) rfl dX3_steps_51 rfl (ihN rfl) rfl ?_
  refine bjmp (tg := 66) (pc' := 55) rfl (by decide) (by decide) rfl dX3_steps_52 rfl (ihN rfl) rfl ?_
  refine bplain (pc' := 56) rfl dX3_steps_55 rfl (ihN rfl) rfl ?_
  refine bthr (pc' := 59) rfl dX3_steps_56 rfl (lkf0 q2637 lf_195) (trivial) (ihN rfl) rfl ?_
  refine bplain (pc' := 60) rfl dX3_steps_59 rfl (ihN rfl) rfl ?_
  refine bplain (pc' := 61) rfl dX3_steps_60 rfl (ihN rfl) rfl ?_
  refine bplain (pc' := 62) rfl dX3_steps_61 rfl (ihN rfl) rfl ?_
  refine bplain (pc' := 63) rfl dX3_steps_62 rfl (ihN rfl) rfl ?_
  refine bjmp (tg := 74) (pc' := 66) rfl (by decide) (by decide) rfl dX3_steps_63 rfl (ihN rfl) rfl ?_
  exact trivial
theorem bf_X3_steps_66 : BOKt mt tX3_steps 362 66 b_X3_steps_66 := by
  refine bplain (pc' := 67) rfl dX3_steps_66 rfl (ihN rfl) rfl ?_
  refine bplain (pc' := 68) rfl dX3_steps_67 rfl (ihN rfl) rfl ?_
  refine bplain (pc' := 69) rfl dX3_steps_68 rfl (ihN rfl) rfl ?_
  refine bplain (pc' := 70) rfl dX3_steps_69 rfl (ihN rfl) rfl ?_
  refine bplain (pc' := 71) rfl dX3_steps_70 rfl (ihN rfl) rfl ?_
  refine bcall (pc' := 74) rfl dX3_steps_71 rfl (trivial) (lcv (n := 2) rfl (pvc (lfv mt_X3_firstFrom ⟨by decide, by decide⟩ mok_X3_firstFrom ⟨by decide, by decide⟩ ⟨q3067, ln_252, Or.inl ⟨q3065, Or.inl qs110⟩⟩) (trivial)) (Or.inl (by decide))) (ihN rfl) rfl ?_
  exact bnop0 rfl (by decide)
theorem bf_X3_steps_74 : BOKt mt tX3_steps 362 74 b_X3_steps_74 := by
  refine bnop1 ?_
  refine bplain (pc' := 75) rfl dX3_steps_74 rfl (ihN rfl) rfl ?_
  refine bplain (pc' := 76) rfl dX3_steps_75 rfl (ihN rfl) rfl ?_
  refine bthr (pc' := 79) rfl dX3_steps_76 rfl (lkf0 q2637 lf_195) (trivial) (ihN rfl) rfl ?_
  refine bplain (pc' := 80) rfl dX3_steps_79 rfl (ihN rfl) rfl ?_
  refine bplain (pc' := 81) rfl dX3_steps_80 rfl (ihN rfl) rfl ?_
  refine bplain (pc' := 82) rfl dX3_steps_81 rfl (ihN rfl) rfl ?_
  refine bjmp (tg := 105) (pc' := 85) rfl (by decide) (by decide) rfl dX3_steps_82 rfl (ihN rfl) rfl ?_
  refine bplain (pc' := 86) rfl dX3_steps_85 rfl (ihN rfl) rfl ?_
  refine bthr (pc' := 89) rfl dX3_steps_86 rfl (lkf0 q2633 lf_193) (trivial) (ihN rfl) rfl ?_
  refine bplain (pc' := 90) rfl dX3_steps_89 rfl (ihN rfl) rfl ?_
  refine bthr (pc' := 93) rfl dX3_steps_90 rfl (lkf0 q2634 lf_545) (trivial) (ihN rfl) rfl ?_
  refine bplain (pc' := 94) rfl dX3_steps_93 rfl (ihN rfl) rfl ?_
  refine bplain (pc' := 95) rfl dX3_steps_94 rfl (ihN rfl) rfl ?_
  refine bplain (pc' := 96) rfl dX3_steps_95 rfl (ihN rfl) rfl ?_
  refine bplain (pc' := 97) rfl dX3_steps_96 rfl (ihN rfl) rfl ?_
  refine bthr (pc' := 100) rfl dX3_steps_97 rfl (lkf0 q2634 lf_545) (trivial) (ihN rfl) rfl ?_
  refine bplain (pc' := 101) rfl dX3_steps_100 rfl (ihN rfl) rfl ?_
  refine bplain (pc' := 102) rfl dX3_steps_101 rfl (ihN rfl) rfl ?_
  refine bobj (pc' := 105) rfl dX3_steps_102 rfl (⟨lkf0 q2634 lf_545, lkp0 lp_546⟩) (ihN rfl) rfl ?_
  exact bnop0 rfl (by decide)
theorem bf_X3_steps_105 : BOKt mt tX3_steps 362 105 b_X3_steps_105 := by
  refine bnop1 ?_
  refine bret (pc' := 106) rfl dX3_steps_105 rfl (rfl) (ihN rfl) rfl ?_
  exact trivial
theorem tf_X3_steps : ∀ x ∈ tb_X3_steps, BOK mt 362 x.1 x.2 := tb_c mt_X3_steps bf_X3_steps_0 (tb_c mt_X3_steps bf_X3_steps_43 (tb_c mt_X3_steps bf_X3_steps_66 (tb_c mt_X3_steps bf_X3_steps_74 (tb_c mt_X3_steps bf_X3_steps_105 (tb_n)))))
theorem bf_X3_runNow_0 : BOKt mt tX3_runNow 363 0 b_X3_runNow_0 := by
  refine bplain (pc' := 1) rfl dX3_runNow_0 rfl (ihN rfl) rfl ?_
  refine bplain (pc' := 2) rfl dX3_runNow_1 rfl (ihN rfl) rfl ?_
  refine bobj (pc' := 5) rfl dX3_runNow_2 rfl (⟨lkf0 q2630 lf_549, lkp0 lp_560⟩) (ihN rfl) rfl ?_
  refine bplain (pc' := 6) rfl dX3_runNow_5 rfl (ihN rfl) rfl ?_
  refine bcall (pc' := 9) rfl dX3_runNow_6 rfl (trivial) (lcv (n := 0) rfl (pvc (lfv mt_X3_begins ⟨by decide, by decide⟩ mok_X3_begins ⟨by decide, by decide⟩ ⟨q3063, ln_0, Or.inl ⟨q3061, Or.inl qs109⟩⟩) (trivial)) (Or.inl (by decide))) (ihN rfl) rfl ?_
  refine bplain (pc' := 10) rfl dX3_runNow_9 rfl (ihN rfl) rfl ?_
  refine bplain (pc' := 11) rfl dX3_runNow_10 rfl (ihN rfl) rfl ?_
  exact bnop0 rfl (by decide)
theorem bf_X3_runNow_11 : BOKt mt tX3_runNow 363 11 b_X3_runNow_11 := by
  refine bplain (pc' := 12) rfl dX3_runNow_11 rfl (ihN rfl) rfl ?_
  refine bplain (pc' := 13) rfl dX3_runNow_12 rfl (ihN rfl) rfl ?_
  refine bthr (pc' := 16) rfl dX3_runNow_13 rfl (lkf0 q2603 lf_274) (trivial) (ihN rfl) rfl ?_
  refine bjmp (tg := 43) (pc' := 19) rfl (by decide) (by decide) rfl dX3_runNow_16 rfl (ihN rfl) rfl ?_
  exact bnop0 rfl (by decide)
theorem bf_X3_runNow_19 : BOKt mt tX3_runNow 363 19 b_X3_runNow_19 := by
  refine bplain (pc' := 20) rfl dX3_runNow_19 rfl (ihN rfl) rfl ?_
  refine bthr (pc' := 23) rfl dX3_runNow_20 rfl (lkf0 q2637 lf_195) (trivial) (ihN rfl) rfl ?_
  refine bplain (pc' := 24) rfl dX3_runNow_23 rfl (ihN rfl) rfl ?_
  refine bplain (pc' := 25) rfl dX3_runNow_24 rfl (ihN rfl) rfl ?_
  refine bplain (pc' := 26) rfl dX3_runNow_25 rfl (ihN rfl) rfl ?_
  refine bjmp (tg := 37) (pc' := 29) rfl (by decide) (by decide) rfl dX3_runNow_26 rfl (ihN rfl) rfl ?_
  refine bplain (pc' := 30) rfl dX3_runNow_29 rfl (ihN rfl) rfl ?_
  refine bplain (pc' := 31) rfl dX3_runNow_30 rfl (ihN rfl) rfl ?_
  refine bcall (pc' := 34) rfl dX3_runNow_31 rfl (trivial) (lcv (n := 1) rfl (pvc (lfv mt_X3_steps ⟨by decide, by decide⟩ mok_X3_steps ⟨by decide, by decide⟩ ⟨q3071, ln_115, Or.inl ⟨q3069, Or.inl qs111⟩⟩) (trivial)) (Or.inl (by decide))) (ihN rfl) rfl ?_
  refine bjmp (tg := 19) (pc' := 37) rfl (by decide) (by decide) rfl dX3_runNow_34 rfl (ihN rfl) rfl ?_
  exact trivial
theorem bf_X3_runNow_37 : BOKt mt tX3_runNow 363 37 b_X3_runNow_37 := by
  refine bplain (pc' := 40) rfl dX3_runNow_37 rfl (ihN rfl) rfl ?_
  refine bjmp (tg := 11) (pc' := 43) rfl (by decide) (by decide) rfl dX3_runNow_40 rfl (ihN rfl) rfl ?_
  exact trivial
theorem bf_X3_runNow_43 : BOKt mt tX3_runNow 363 43 b_X3_runNow_43 := by
  refine bplain (pc' := 44) rfl dX3_runNow_43 rfl (ihN rfl) rfl ?_
  refine bthr (pc' := 47) rfl dX3_runNow_44 rfl (lkf0 q2631 lf_543) (trivial) (ihN rfl) rfl ?_
  refine bret (pc' := 48) rfl dX3_runNow_47 rfl (Or.inl ⟨rfl, rfl⟩) (ihN rfl) rfl ?_
  exact trivial
theorem tf_X3_runNow : ∀ x ∈ tb_X3_runNow, BOK mt 363 x.1 x.2 := tb_c mt_X3_runNow bf_X3_runNow_0 (tb_c mt_X3_runNow bf_X3_runNow_11 (tb_c mt_X3_runNow bf_X3_runNow_19 (tb_c mt_X3_runNow bf_X3_runNow_37 (tb_c mt_X3_runNow bf_X3_runNow_43 (tb_n)))))
theorem bf_X3_run_0 : BOKt mt tX3_run 364 0 b_X3_run_0 := by
  refine bplain (pc' := 1) rfl dX3_run_0 rfl (ihN rfl) rfl ?_
  refine bcall (pc' := 4) rfl dX3_run_1 rfl (trivial) (lcv (n := 0) rfl (pvc (lfv mt_X3_runNow ⟨by decide, by decide⟩ mok_X3_runNow ⟨by decide, by decide⟩ ⟨q3059, ln_40, Or.inl ⟨q3057, Or.inl qs108⟩⟩) (trivial)) (Or.inl (by decide))) (ihN rfl) rfl ?_
  refine bret (pc' := 5) rfl dX3_run_4 rfl (Or.inl ⟨rfl, rfl⟩) (ihN rfl) rfl ?_
  exact trivial
theorem tf_X3_run : ∀ x ∈ tb_X3_run, BOK mt 364 x.1 x.2 := tb_c mt_X3_run bf_X3_run_0 (tb_n)
theorem bf_X0_isTwo_0 : BOKt mt tX0_isTwo 365 0 b_X0_isTwo_0 := by
  refine bplain (pc' := 1) rfl dX0_isTwo_0 rfl (ihN rfl) rfl ?_
  refine bplain (pc' := 2) rfl dX0_isTwo_1 rfl (ihN rfl) rfl ?_
  refine bplain (pc' := 3) rfl dX0_isTwo_2 rfl (ihN rfl) rfl ?_
  refine bplain (pc' := 4) rfl dX0_isTwo_3 rfl (ihN rfl) rfl ?_
  refine bcall (pc' := 7) rfl dX0_isTwo_4 rfl (trivial) (lcs (l := q1214) mt_X0_in ⟨by decide, by decide⟩ mok_X0_in rfl ln_210 (Or.inl q1213)) (ihN rfl) rfl ?_
  refine bret (pc' := 8) rfl dX0_isTwo_7 rfl (Or.inr ⟨rfl, rfl⟩) (ihN rfl) rfl ?_
  exact trivial
theorem tf_X0_isTwo : ∀ x ∈ tb_X0_isTwo, BOK mt 365 x.1 x.2 := tb_c mt_X0_isTwo bf_X0_isTwo_0 (tb_n)
theorem bf_X0_isMix_0 : BOKt mt tX0_isMix 366 0 b_X0_isMix_0 := by
  refine bplain (pc' := 1) rfl dX0_isMix_0 rfl (ihN rfl) rfl ?_
  refine bplain (pc' := 2) rfl dX0_isMix_1 rfl (ihN rfl) rfl ?_
  refine bplain (pc' := 3) rfl dX0_isMix_2 rfl (ihN rfl) rfl ?_
  refine bobj (pc' := 6) rfl dX0_isMix_3 rfl (lkq0 lc_223 q1216) (ihN rfl) rfl ?_
  refine bcall (pc' := 9) rfl dX0_isMix_6 rfl (trivial) (lcs (l := q1214) mt_X0_in ⟨by decide, by decide⟩ mok_X0_in rfl ln_210 (Or.inl q1213)) (ihN rfl) rfl ?_
  refine bjmp (tg := 47) (pc' := 12) rfl (by decide) (by decide) rfl dX0_isMix_9 rfl (ihN rfl) rfl ?_
  refine bplain (pc' := 13) rfl dX0_isMix_12 rfl (ihN rfl) rfl ?_
  refine bplain (pc' := 14) rfl dX0_isMix_13 rfl (ihN rfl) rfl ?_
  refine bplain (pc' := 15) rfl dX0_isMix_14 rfl (ihN rfl) rfl ?_
  refine bobj (pc' := 18) rfl dX0_isMix_15 rfl (lkq0 lc_336 q1775) (ihN rfl) rfl ?_
  refine bcall (pc' := 21) rfl dX0_isMix_18 rfl (trivial) (lcs (l := q1214) mt_X0_in ⟨by decide, by decide⟩ mok_X0_in rfl ln_210 (Or.inl q1213)) (ihN rfl) rfl ?_
  refine bjmp (tg := 47) (pc' := 24) rfl (by decide) (by decide) rfl dX0_isMix_21 rfl (ihN rfl) rfl ?_
  refine bplain (pc' := 25) rfl dX0_isMix_24 rfl (ihN rfl) rfl ?_
  refine bplain (pc' := 26) rfl dX0_isMix_25 rfl (ihN rfl) rfl ?_
  refine bplain (pc' := 27) rfl dX0_isMix_26 rfl (ihN rfl) rfl ?_
  refine bobj (pc' := 30) rfl dX0_isMix_27 rfl (lkq0 lc_561 q2470) (ihN rfl) rfl ?_
  refine bcall (pc' := 33) rfl dX0_isMix_30 rfl (trivial) (lcs (l := q1214) mt_X0_in ⟨by decide, by decide⟩ mok_X0_in rfl ln_210 (Or.inl q1213)) (ihN rfl) rfl ?_
  refine bjmp (tg := 47) (pc' := 36) rfl (by decide) (by decide) rfl dX0_isMix_33 rfl (ihN rfl) rfl ?_
  refine bplain (pc' := 37) rfl dX0_isMix_36 rfl (ihN rfl) rfl ?_
  refine bcall (pc' := 40) rfl dX0_isMix_37 rfl (trivial) (lcs (l := q2472) mt_X0_isTwo ⟨by decide, by decide⟩ mok_X0_isTwo rfl ln_222 (Or.inl q2471)) (ihN rfl) rfl ?_
  refine bjmp (tg := 47) (pc' := 43) rfl (by decide) (by decide) rfl dX0_isMix_40 rfl (ihN rfl) rfl ?_
  refine bplain (pc' := 44) rfl dX0_isMix_43 rfl (ihN rfl) rfl ?_
  refine bjmp (tg := 48) (pc' := 47) rfl (by decide) (by decide) rfl dX0_isMix_44 rfl (ihN rfl) rfl ?_
  exact trivial
theorem bf_X0_isMix_47 : BOKt mt tX0_isMix 366 47 b_X0_isMix_47 := by
  refine bnop1 ?_
  refine bplain (pc' := 48) rfl dX0_isMix_47 rfl (ihN rfl) rfl ?_
  exact bnop0 rfl (by decide)
theorem bf_X0_isMix_48 : BOKt mt tX0_isMix 366 48 b_X0_isMix_48 := by
  refine bnop1 ?_
  refine bret (pc' := 49) rfl dX0_isMix_48 rfl (Or.inr ⟨rfl, rfl⟩) (ihN rfl) rfl ?_
  exact trivial
theorem tf_X0_isMix : ∀ x ∈ tb_X0_isMix, BOK mt 366 x.1 x.2 := tb_c mt_X0_isMix bf_X0_isMix_0 (tb_c mt_X0_isMix bf_X0_isMix_47 (tb_c mt_X0_isMix bf_X0_isMix_48 (tb_n)))
theorem bf_X0_serialRows_0 : BOKt mt tX0_serialRows 367 0 b_X0_serialRows_0 := by
  refine bplain (pc' := 1) rfl dX0_serialRows_0 rfl (ihN rfl) rfl ?_
  refine bplain (pc' := 2) rfl dX0_serialRows_1 rfl (ihN rfl) rfl ?_
  refine bplain (pc' := 3) rfl dX0_serialRows_2 rfl (ihN rfl) rfl ?_
  refine bplain (pc' := 4) rfl dX0_serialRows_3 rfl (ihN rfl) rfl ?_
  exact bnop0 rfl (by decide)
theorem bf_X0_serialRows_4 : BOKt mt tX0_serialRows 367 4 b_X0_serialRows_4 := by
  refine bplain (pc' := 5) rfl dX0_serialRows_4 rfl (ihN rfl) rfl ?_
  refine bplain (pc' := 7) rfl dX0_serialRows_5 rfl (ihN rfl) rfl ?_
  refine bjmp (tg := 33) (pc' := 10) rfl (by decide) (by decide) rfl dX0_serialRows_7 rfl (ihN rfl) rfl ?_
  refine bplain (pc' := 11) rfl dX0_serialRows_10 rfl (ihN rfl) rfl ?_
  refine bplain (pc' := 12) rfl dX0_serialRows_11 rfl (ihN rfl) rfl ?_
  refine bplain (pc' := 13) rfl dX0_serialRows_12 rfl (ihN rfl) rfl ?_
  refine bcall (pc' := 16) rfl dX0_serialRows_13 rfl (trivial) (lcv (n := 1) rfl (pvc (lfv mt_X0_verdictOf ⟨by decide, by decide⟩ mok_X0_verdictOf ⟨by decide, by decide⟩ ⟨q2296, ln_225, Or.inl ⟨q2294, Or.inl qs30⟩⟩) (trivial)) (Or.inl (by decide))) (ihN rfl) rfl ?_
  refine bplain (pc' := 17) rfl dX0_serialRows_16 rfl (ihN rfl) rfl ?_
  refine bjmp (tg := 24) (pc' := 20) rfl (by decide) (by decide) rfl dX0_serialRows_17 rfl (ihN rfl) rfl ?_
  refine bplain (pc' := 21) rfl dX0_serialRows_20 rfl (ihN rfl) rfl ?_
  refine bjmp (tg := 25) (pc' := 24) rfl (by decide) (by decide) rfl dX0_serialRows_21 rfl (ihN rfl) rfl ?_
  exact trivial
theorem bf_X0_serialRows_24 : BOKt mt tX0_serialRows 367 24 b_X0_serialRows_24 := by
  refine bplain (pc' := 25) rfl dX0_serialRows_24 rfl (ihN rfl) rfl ?_
  exact bnop0 rfl (by decide)
theorem bf_X0_serialRows_25 : BOKt mt tX0_serialRows 367 25 b_X0_serialRows_25 := by
  refine bnop1 ?_
  refine bplain (pc' := 26) rfl dX0_serialRows_25 rfl (ihN rfl) rfl ?_
  refine bplain (pc' := 27) rfl dX0_serialRows_26 rfl (ihN rfl) rfl ?_
  refine bplain (pc' := 30) rfl dX0_serialRows_27 rfl (ihN rfl) rfl ?_
  refine bjmp (tg := 4) (pc' := 33) rfl (by decide) (by decide) rfl dX0_serialRows_30 rfl (ihN rfl) rfl ?_
  exact trivial
theorem bf_X0_serialRows_33 : BOKt mt tX0_serialRows 367 33 b_X0_serialRows_33 := by
  refine bplain (pc' := 34) rfl dX0_serialRows_33 rfl (ihN rfl) rfl ?_
  refine bret (pc' := 35) rfl dX0_serialRows_34 rfl (Or.inl ⟨rfl, rfl⟩) (ihN rfl) rfl ?_
  exact trivial
theorem tf_X0_serialRows : ∀ x ∈ tb_X0_serialRows, BOK mt 367 x.1 x.2 := tb_c mt_X0_serialRows bf_X0_serialRows_0 (tb_c mt_X0_serialRows bf_X0_serialRows_4 (tb_c mt_X0_serialRows bf_X0_serialRows_24 (tb_c mt_X0_serialRows bf_X0_serialRows_25 (tb_c mt_X0_serialRows bf_X0_serialRows_33 (tb_n)))))
theorem bf_X0_isParallel_0 : BOKt mt tX0_isParallel 368 0 b_X0_isParallel_0 := by
  refine bplain (pc' := 1) rfl dX0_isParallel_0 rfl (ihN rfl) rfl ?_
  refine bcall (pc' := 4) rfl dX0_isParallel_1 rfl (trivial) (lcv (n := 0) rfl (pvc (lfv mt_X0_knows ⟨by decide, by decide⟩ mok_X0_knows ⟨by decide, by decide⟩ ⟨q2223, ln_0, Or.inl ⟨q2221, Or.inl qs24⟩⟩) (trivial)) (Or.inl (by decide))) (ihN rfl) rfl ?_
  refine bplain (pc' := 5) rfl dX0_isParallel_4 rfl (ihN rfl) rfl ?_
  refine bcall (pc' := 8) rfl dX0_isParallel_5 rfl (trivial) (lcv (n := 0) rfl (pvc (lfv mt_X0_serialRows ⟨by decide, by decide⟩ mok_X0_serialRows ⟨by decide, by decide⟩ ⟨q2480, ln_40, Or.inl ⟨q2478, Or.inl qs45⟩⟩) (trivial)) (Or.inl (by decide))) (ihN rfl) rfl ?_
  refine bjmp (tg := 15) (pc' := 11) rfl (by decide) (by decide) rfl dX0_isParallel_8 rfl (ihN rfl) rfl ?_
  refine bplain (pc' := 12) rfl dX0_isParallel_11 rfl (ihN rfl) rfl ?_
  refine bjmp (tg := 16) (pc' := 15) rfl (by decide) (by decide) rfl dX0_isParallel_12 rfl (ihN rfl) rfl ?_
  exact trivial
theorem bf_X0_isParallel_15 : BOKt mt tX0_isParallel 368 15 b_X0_isParallel_15 := by
  refine bplain (pc' := 16) rfl dX0_isParallel_15 rfl (ihN rfl) rfl ?_
  exact bnop0 rfl (by decide)
theorem bf_X0_isParallel_16 : BOKt mt tX0_isParallel 368 16 b_X0_isParallel_16 := by
  refine bnop1 ?_
  refine bret (pc' := 17) rfl dX0_isParallel_16 rfl (Or.inr ⟨rfl, rfl⟩) (ihN rfl) rfl ?_
  exact trivial
theorem tf_X0_isParallel : ∀ x ∈ tb_X0_isParallel, BOK mt 368 x.1 x.2 := tb_c mt_X0_isParallel bf_X0_isParallel_0 (tb_c mt_X0_isParallel bf_X0_isParallel_15 (tb_c mt_X0_isParallel bf_X0_isParallel_16 (tb_n)))
theorem bf_X0_dealOf_0 : BOKt mt tX0_dealOf 369 0 b_X0_dealOf_0 := by
  refine bplain (pc' := 1) rfl dX0_dealOf_0 rfl (ihN rfl) rfl ?_
  refine bplain (pc' := 2) rfl dX0_dealOf_1 rfl (ihN rfl) rfl ?_
  refine bjmp (tg := 12) (pc' := 5) rfl (by decide) (by decide) rfl dX0_dealOf_2 rfl (ihN rfl) rfl ?_
  refine bplain (pc' := 6) rfl dX0_dealOf_5 rfl (ihN rfl) rfl ?_
  refine bcall (pc' := 11) rfl dX0_dealOf_6 rfl (trivial) (⟨40, rfl, ⟨⟨by decide, by decide⟩, rfl, rfl, rfl⟩, (fun h => nomatch h), rfl, rfl, capl_of (by rfl)⟩) (ihN rfl) rfl ?_
  refine bret (pc' := 12) rfl dX0_dealOf_11 rfl (⟨_, rfl, Or.inl ⟨_, rfl⟩⟩) (ihN rfl) rfl ?_
  exact trivial
theorem bf_X0_dealOf_12 : BOKt mt tX0_dealOf 369 12 b_X0_dealOf_12 := by
  refine bplain (pc' := 13) rfl dX0_dealOf_12 rfl (ihN rfl) rfl ?_
  refine bthr (pc' := 16) rfl dX0_dealOf_13 rfl (lkf0 q1118 lf_270) (trivial) (ihN rfl) rfl ?_
  refine bplain (pc' := 17) rfl dX0_dealOf_16 rfl (ihN rfl) rfl ?_
  refine bplain (pc' := 18) rfl dX0_dealOf_17 rfl (ihN rfl) rfl ?_
  refine bplain (pc' := 19) rfl dX0_dealOf_18 rfl (ihN rfl) rfl ?_
  refine bplain (pc' := 20) rfl dX0_dealOf_19 rfl (ihN rfl) rfl ?_
  refine bplain (pc' := 21) rfl dX0_dealOf_20 rfl (ihN rfl) rfl ?_
  refine bplain (pc' := 22) rfl dX0_dealOf_21 rfl (ihN rfl) rfl ?_
  refine bplain (pc' := 23) rfl dX0_dealOf_22 rfl (ihN rfl) rfl ?_
  refine bplain (pc' := 24) rfl dX0_dealOf_23 rfl (ihN rfl) rfl ?_
  refine bcall (pc' := 29) rfl dX0_dealOf_24 rfl (trivial) (⟨41, rfl, ⟨⟨by decide, by decide⟩, rfl, rfl, rfl⟩, (fun h => nomatch h), rfl, rfl, capl_of (by rfl)⟩) (ihN rfl) rfl ?_
  refine bret (pc' := 30) rfl dX0_dealOf_29 rfl (⟨_, rfl, Or.inl ⟨_, rfl⟩⟩) (ihN rfl) rfl ?_
  exact trivial
theorem tf_X0_dealOf : ∀ x ∈ tb_X0_dealOf, BOK mt 369 x.1 x.2 := tb_c mt_X0_dealOf bf_X0_dealOf_0 (tb_c mt_X0_dealOf bf_X0_dealOf_12 (tb_n))
theorem bf_X0_lambda_dealOf_6_0 : BOKt mt tX0_lambda_dealOf_6 370 0 b_X0_lambda_dealOf_6_0 := by
  refine bplain (pc' := 1) rfl dX0_lambda_dealOf_6_0 rfl (ihN rfl) rfl ?_
  refine bplain (pc' := 2) rfl dX0_lambda_dealOf_6_1 rfl (ihN rfl) rfl ?_
  refine bplain (pc' := 3) rfl dX0_lambda_dealOf_6_2 rfl (ihN rfl) rfl ?_
  refine bret (pc' := 4) rfl dX0_lambda_dealOf_6_3 rfl (Or.inl ⟨rfl, rfl⟩) (ihN rfl) rfl ?_
  exact trivial
theorem tf_X0_lambda_dealOf_6 : ∀ x ∈ tb_X0_lambda_dealOf_6, BOK mt 370 x.1 x.2 := tb_c mt_X0_lambda_dealOf_6 bf_X0_lambda_dealOf_6_0 (tb_n)
theorem bf_X0_lambda_dealOf_7_0 : BOKt mt tX0_lambda_dealOf_7 371 0 b_X0_lambda_dealOf_7_0 := by
  refine bplain (pc' := 1) rfl dX0_lambda_dealOf_7_0 rfl (ihN rfl) rfl ?_
  refine bplain (pc' := 2) rfl dX0_lambda_dealOf_7_1 rfl (ihN rfl) rfl ?_
  refine bplain (pc' := 3) rfl dX0_lambda_dealOf_7_2 rfl (ihN rfl) rfl ?_
  refine bret (pc' := 4) rfl dX0_lambda_dealOf_7_3 rfl (Or.inl ⟨rfl, rfl⟩) (ihN rfl) rfl ?_
  exact trivial
theorem tf_X0_lambda_dealOf_7 : ∀ x ∈ tb_X0_lambda_dealOf_7, BOK mt 371 x.1 x.2 := tb_c mt_X0_lambda_dealOf_7 bf_X0_lambda_dealOf_7_0 (tb_n)
theorem bf_X0_next_0 : BOKt mt tX0_next 372 0 b_X0_next_0 := by
  refine bplain (pc' := 1) rfl dX0_next_0 rfl (ihN rfl) rfl ?_
  refine bplain (pc' := 3) rfl dX0_next_1 rfl (ihN rfl) rfl ?_
  exact bnop0 rfl (by decide)
theorem bf_X0_next_3 : BOKt mt tX0_next 372 3 b_X0_next_3 := by
  refine bnop1 ?_
  refine bplain (pc' := 5) rfl dX0_next_3 rfl (ihN rfl) rfl ?_
  refine bplain (pc' := 6) rfl dX0_next_5 rfl (ihN rfl) rfl ?_
  refine bthr (pc' := 9) rfl dX0_next_6 rfl (lkf0 q1118 lf_270) (trivial) (ihN rfl) rfl ?_
  refine bjmp (tg := 71) (pc' := 12) rfl (by decide) (by decide) rfl dX0_next_9 rfl (ihN rfl) rfl ?_
  refine bplain (pc' := 13) rfl dX0_next_12 rfl (ihN rfl) rfl ?_
  refine bjmp (tg := 28) (pc' := 16) rfl (by decide) (by decide) rfl dX0_next_13 rfl (ihN rfl) rfl ?_
  refine bplain (pc' := 17) rfl dX0_next_16 rfl (ihN rfl) rfl ?_
  refine bthr (pc' := 20) rfl dX0_next_17 rfl (lkf0 q1118 lf_270) (trivial) (ihN rfl) rfl ?_
  refine bplain (pc' := 21) rfl dX0_next_20 rfl (ihN rfl) rfl ?_
  refine bplain (pc' := 22) rfl dX0_next_21 rfl (ihN rfl) rfl ?_
  refine bplain (pc' := 24) rfl dX0_next_22 rfl (ihN rfl) rfl ?_
  refine bplain (pc' := 25) rfl dX0_next_24 rfl (ihN rfl) rfl ?_
  refine bjmp (tg := 30) (pc' := 28) rfl (by decide) (by decide) rfl dX0_next_25 rfl (ihN rfl) rfl ?_
  exact trivial
theorem bf_X0_next_28 : BOKt mt tX0_next 372 28 b_X0_next_28 := by
  refine bplain (pc' := 30) rfl dX0_next_28 rfl (ihN rfl) rfl ?_
  exact bnop0 rfl (by decide)
theorem bf_X0_next_30 : BOKt mt tX0_next 372 30 b_X0_next_30 := by
  refine bnop1 ?_
  refine bplain (pc' := 32) rfl dX0_next_30 rfl (ihN rfl) rfl ?_
  refine bplain (pc' := 33) rfl dX0_next_32 rfl (ihN rfl) rfl ?_
  refine bplain (pc' := 35) rfl dX0_next_33 rfl (ihN rfl) rfl ?_
  refine bcall (pc' := 40) rfl dX0_next_35 rfl (trivial) (lcl (n := 1) (j := 6) rfl q2499 ln_225 rfl (plc (lfl (q := 40) rfl ⟨by decide, by decide⟩ rfl mt_X0_lambda_dealOf_6 ⟨by decide, by decide⟩ mok_X0_lambda_dealOf_6 ll_564 ll_565) (plc (lfl (q := 41) rfl ⟨by decide, by decide⟩ rfl mt_X0_lambda_dealOf_7 ⟨by decide, by decide⟩ mok_X0_lambda_dealOf_7 ll_562 ll_563) (trivial)))) (ihN rfl) rfl ?_
  refine bplain (pc' := 41) rfl dX0_next_40 rfl (ihN rfl) rfl ?_
  refine bjmp (tg := 65) (pc' := 44) rfl (by decide) (by decide) rfl dX0_next_41 rfl (ihN rfl) rfl ?_
  refine bplain (pc' := 45) rfl dX0_next_44 rfl (ihN rfl) rfl ?_
  refine bthr (pc' := 48) rfl dX0_next_45 rfl (lkf0 q1128 lf_131) (trivial) (ihN rfl) rfl ?_
  refine bplain (pc' := 50) rfl dX0_next_48 rfl (ihN rfl) rfl ?_
  refine bplain (pc' := 51) rfl dX0_next_50 rfl (ihN rfl) rfl ?_
  refine bcall (pc' := 54) rfl dX0_next_51 rfl (trivial) (lcv (n := 0) rfl (pvc (lfv mt_X2_isLeft ⟨by decide, by decide⟩ mok_X2_isLeft ⟨by decide, by decide⟩ ⟨q2366, ln_30, Or.inl ⟨q2365, Or.inl q2367⟩⟩) (trivial)) (Or.inl (by decide))) (ihN rfl) rfl ?_
  refine bjmp (tg := 65) (pc' := 57) rfl (by decide) (by decide) rfl dX0_next_54 rfl (ihN rfl) rfl ?_
  refine bplain (pc' := 58) rfl dX0_next_57 rfl (ihN rfl) rfl ?_
  refine bthr (pc' := 61) rfl dX0_next_58 rfl (lkf0 q1128 lf_131) (trivial) (ihN rfl) rfl ?_
  refine bplain (pc' := 63) rfl dX0_next_61 rfl (ihN rfl) rfl ?_
  refine bplain (pc' := 64) rfl dX0_next_63 rfl (ihN rfl) rfl ?_
  refine bret (pc' := 65) rfl dX0_next_64 rfl (⟨_, rfl, Or.inl ⟨_, rfl⟩⟩) (ihN rfl) rfl ?_
  exact trivial
theorem bf_X0_next_65 : BOKt mt tX0_next 372 65 b_X0_next_65 := by
  refine bnop1 ?_
  refine bplain (pc' := 68) rfl dX0_next_65 rfl (ihN rfl) rfl ?_
  refine bjmp (tg := 3) (pc' := 71) rfl (by decide) (by decide) rfl dX0_next_68 rfl (ihN rfl) rfl ?_
  exact trivial
theorem bf_X0_next_71 : BOKt mt tX0_next 372 71 b_X0_next_71 := by
  refine bplain (pc' := 72) rfl dX0_next_71 rfl (ihN rfl) rfl ?_
  refine bret (pc' := 73) rfl dX0_next_72 rfl (⟨_, rfl, Or.inl ⟨_, rfl⟩⟩) (ihN rfl) rfl ?_
  exact trivial
theorem tf_X0_next : ∀ x ∈ tb_X0_next, BOK mt 372 x.1 x.2 := tb_c mt_X0_next bf_X0_next_0 (tb_c mt_X0_next bf_X0_next_3 (tb_c mt_X0_next bf_X0_next_28 (tb_c mt_X0_next bf_X0_next_30 (tb_c mt_X0_next bf_X0_next_65 (tb_c mt_X0_next bf_X0_next_71 (tb_n))))))
theorem bf_X0_gathererOf_0 : BOKt mt tX0_gathererOf 373 0 b_X0_gathererOf_0 := by
  refine bplain (pc' := 1) rfl dX0_gathererOf_0 rfl (ihN rfl) rfl ?_
  refine bplain (pc' := 2) rfl dX0_gathererOf_1 rfl (ihN rfl) rfl ?_
  exact bnop0 rfl (by decide)
theorem bf_X0_gathererOf_2 : BOKt mt tX0_gathererOf 373 2 b_X0_gathererOf_2 := by
  refine bplain (pc' := 3) rfl dX0_gathererOf_2 rfl (ihN rfl) rfl ?_
  refine bplain (pc' := 4) rfl dX0_gathererOf_3 rfl (ihN rfl) rfl ?_
  refine bthr (pc' := 7) rfl dX0_gathererOf_4 rfl (lkf0 q1115 lf_116) (trivial) (ihN rfl) rfl ?_
  refine bcall (pc' := 10) rfl dX0_gathererOf_7 rfl (trivial) (lcv (n := 0) rfl (pvc (lfv mt_J20_size ⟨by decide, by decide⟩ mok_J20_size ⟨by decide, by decide⟩ ⟨q1648, ln_40, Or.inl ⟨q1647, Or.inl q1649⟩⟩) (trivial)) (Or.inl (by decide))) (ihN rfl) rfl ?_
  refine bjmp (tg := 53) (pc' := 13) rfl (by decide) (by decide) rfl dX0_gathererOf_10 rfl (ihN rfl) rfl ?_
  refine bplain (pc' := 14) rfl dX0_gathererOf_13 rfl (ihN rfl) rfl ?_
  refine bthr (pc' := 17) rfl dX0_gathererOf_14 rfl (lkf0 q1115 lf_116) (trivial) (ihN rfl) rfl ?_
  refine bplain (pc' := 18) rfl dX0_gathererOf_17 rfl (ihN rfl) rfl ?_
  refine bcall (pc' := 21) rfl dX0_gathererOf_18 rfl (trivial) (lcv (n := 1) rfl (pvc (lfv mt_J20_get ⟨by decide, by decide⟩ mok_J20_get ⟨by decide, by decide⟩ ⟨q1777, ln_338, Or.inl ⟨q1776, Or.inl q1778⟩⟩) (trivial)) (Or.inl (by decide))) (ihN rfl) rfl ?_
  refine bthr (pc' := 24) rfl dX0_gathererOf_21 rfl (lkc (nm := "StrideTurns$Statement") q1651 lg_340 lb_341) (Or.inl rfl) (ihN rfl) rfl ?_
  refine bplain (pc' := 25) rfl dX0_gathererOf_24 rfl (ihN rfl) rfl ?_
  refine bcall (pc' := 28) rfl dX0_gathererOf_25 rfl (trivial) (lcv (n := 1) rfl (pvc (lfv mt_X6_at ⟨by decide, by decide⟩ mok_X6_at ⟨by decide, by decide⟩ ⟨q1785, ln_342, Or.inl ⟨q1784, Or.inl q1786⟩⟩) (trivial)) (Or.inl (by decide))) (ihN rfl) rfl ?_
  refine bthr (pc' := 31) rfl dX0_gathererOf_28 rfl (lkf1 (host := "StrideTurns") (by decide) q1669 lf_310) (trivial) (ihN rfl) rfl ?_
  refine bplain (pc' := 32) rfl dX0_gathererOf_31 rfl (ihN rfl) rfl ?_
  refine bjmp (tg := 47) (pc' := 35) rfl (by decide) (by decide) rfl dX0_gathererOf_32 rfl (ihN rfl) rfl ?_
  refine bplain (pc' := 36) rfl dX0_gathererOf_35 rfl (ihN rfl) rfl ?_
  refine bthr (pc' := 39) rfl dX0_gathererOf_36 rfl (lkf0 q1115 lf_116) (trivial) (ihN rfl) rfl ?_
  refine bplain (pc' := 40) rfl dX0_gathererOf_39 rfl (ihN rfl) rfl ?_
  refine bcall (pc' := 43) rfl dX0_gathererOf_40 rfl (trivial) (lcv (n := 1) rfl (pvc (lfv mt_J20_get ⟨by decide, by decide⟩ mok_J20_get ⟨by decide, by decide⟩ ⟨q1777, ln_338, Or.inl ⟨q1776, Or.inl q1778⟩⟩) (trivial)) (Or.inl (by decide))) (ihN rfl) rfl ?_
  refine bthr (pc' := 46) rfl dX0_gathererOf_43 rfl (lkc (nm := "StrideTurns$Statement") q1651 lg_340 lb_341) (Or.inl rfl) (ihN rfl) rfl ?_
  refine bret (pc' := 47) rfl dX0_gathererOf_46 rfl (⟨_, rfl, Or.inl ⟨_, rfl⟩⟩) (ihN rfl) rfl ?_
  exact trivial
theorem bf_X0_gathererOf_47 : BOKt mt tX0_gathererOf 373 47 b_X0_gathererOf_47 := by
  refine bplain (pc' := 50) rfl dX0_gathererOf_47 rfl (ihN rfl) rfl ?_
  refine bjmp (tg := 2) (pc' := 53) rfl (by decide) (by decide) rfl dX0_gathererOf_50 rfl (ihN rfl) rfl ?_
  exact trivial
theorem bf_X0_gathererOf_53 : BOKt mt tX0_gathererOf 373 53 b_X0_gathererOf_53 := by
  refine bplain (pc' := 54) rfl dX0_gathererOf_53 rfl (ihN rfl) rfl ?_
  refine bret (pc' := 55) rfl dX0_gathererOf_54 rfl (⟨_, rfl, Or.inl ⟨_, rfl⟩⟩) (ihN rfl) rfl ?_
  exact trivial
theorem tf_X0_gathererOf : ∀ x ∈ tb_X0_gathererOf, BOK mt 373 x.1 x.2 := tb_c mt_X0_gathererOf bf_X0_gathererOf_0 (tb_c mt_X0_gathererOf bf_X0_gathererOf_2 (tb_c mt_X0_gathererOf bf_X0_gathererOf_47 (tb_c mt_X0_gathererOf bf_X0_gathererOf_53 (tb_n))))
theorem bf_X0_comes_0 : BOKt mt tX0_comes 374 0 b_X0_comes_0 := by
  refine bplain (pc' := 1) rfl dX0_comes_0 rfl (ihN rfl) rfl ?_
  refine bthr (pc' := 4) rfl dX0_comes_1 rfl (lkf0 q1112 lf_113) (trivial) (ihN rfl) rfl ?_
  refine bplain (pc' := 5) rfl dX0_comes_4 rfl (ihN rfl) rfl ?_
  refine bplain (pc' := 6) rfl dX0_comes_5 rfl (ihN rfl) rfl ?_
  refine bplain (pc' := 8) rfl dX0_comes_6 rfl (ihN rfl) rfl ?_
  refine bplain (pc' := 9) rfl dX0_comes_8 rfl (ihN rfl) rfl ?_
  refine bthr (pc' := 12) rfl dX0_comes_9 rfl (lkf1 (host := "StrideTurns") (by decide) q1082 lf_106) (trivial) (ihN rfl) rfl ?_
  refine bplain (pc' := 14) rfl dX0_comes_12 rfl (ihN rfl) rfl ?_
  refine bplain (pc' := 15) rfl dX0_comes_14 rfl (ihN rfl) rfl ?_
  refine bplain (pc' := 16) rfl dX0_comes_15 rfl (ihN rfl) rfl ?_
  refine bplain (pc' := 17) rfl dX0_comes_16 rfl (ihN rfl) rfl ?_
  refine bplain (pc' := 18) rfl dX0_comes_17 rfl (ihN rfl) rfl ?_
  refine bplain (pc' := 19) rfl dX0_comes_18 rfl (ihN rfl) rfl ?_
  refine bplain (pc' := 21) rfl dX0_comes_19 rfl (ihN rfl) rfl ?_
  refine bplain (pc' := 22) rfl dX0_comes_21 rfl (ihN rfl) rfl ?_
  refine bthr (pc' := 25) rfl dX0_comes_22 rfl (lkf0 q1124 lf_126) (trivial) (ihN rfl) rfl ?_
  refine bplain (pc' := 26) rfl dX0_comes_25 rfl (ihN rfl) rfl ?_
  refine bplain (pc' := 27) rfl dX0_comes_26 rfl (ihN rfl) rfl ?_
  refine bplain (pc' := 28) rfl dX0_comes_27 rfl (ihN rfl) rfl ?_
  refine bjmp (tg := 102) (pc' := 31) rfl (by decide) (by decide) rfl dX0_comes_28 rfl (ihN rfl) rfl ?_
  refine bplain (pc' := 32) rfl dX0_comes_31 rfl (ihN rfl) rfl ?_
  refine bplain (pc' := 33) rfl dX0_comes_32 rfl (ihN rfl) rfl ?_
  refine bcall (pc' := 36) rfl dX0_comes_33 rfl (trivial) (lcv (n := 1) rfl (pvc (lfv mt_X0_gathererOf ⟨by decide, by decide⟩ mok_X0_gathererOf ⟨by decide, by decide⟩ ⟨q2512, ln_566, Or.inl ⟨q2510, Or.inl qs51⟩⟩) (trivial)) (Or.inl (by decide))) (ihN rfl) rfl ?_
  refine bplain (pc' := 38) rfl dX0_comes_36 rfl (ihN rfl) rfl ?_
  refine bplain (pc' := 40) rfl dX0_comes_38 rfl (ihN rfl) rfl ?_
  refine bthr (pc' := 43) rfl dX0_comes_40 rfl (lkf1 (host := "StrideTurns") (by decide) q1696 lf_322) (trivial) (ihN rfl) rfl ?_
  refine bthr (pc' := 46) rfl dX0_comes_43 rfl (lkf1 (host := "StrideTurns") (by decide) q256 lf_5) (trivial) (ihN rfl) rfl ?_
  refine bplain (pc' := 47) rfl dX0_comes_46 rfl (ihN rfl) rfl ?_
  refine bjmp (tg := 66) (pc' := 50) rfl (by decide) (by decide) rfl dX0_comes_47 rfl (ihN rfl) rfl ?_
  refine bplain (pc' := 51) rfl dX0_comes_50 rfl (ihN rfl) rfl ?_
  refine bthr (pc' := 54) rfl dX0_comes_51 rfl (lkf0 q1111 lf_111) (trivial) (ihN rfl) rfl ?_
  refine bobj (pc' := 57) rfl dX0_comes_54 rfl (lkls (n := 0) (by decide) rfl) (ihN rfl) rfl ?_
  refine bcall (pc' := 60) rfl dX0_comes_57 rfl (trivial) (lcv (n := 1) rfl (pvc (lfv mt_J1_get ⟨by decide, by decide⟩ mok_J1_get ⟨by decide, by decide⟩ ⟨q1627, ln_304, Or.inl ⟨q1626, Or.inl q1628⟩⟩) (pvc (lfv mt_J34_get ⟨by decide, by decide⟩ mok_J34_get ⟨by decide, by decide⟩ ⟨q1631, ln_304, Or.inr (Or.inr ⟨rfl, ⟨"java/util/HashMap", "get", "(Ljava/lang/Object;)Ljava/lang/Object;"⟩, "java/util/HashMap", q1626, q1629, lv_84, ln_304, q1630, Or.inl ⟨_, _, _, q1627, q1644⟩⟩)⟩) (trivial))) (Or.inl (by decide))) (ihN rfl) rfl ?_
  refine bthr (pc' := 63) rfl dX0_comes_60 rfl (lkc (nm := "StrideTurns$Deed") q1646 lg_305 lb_306) (Or.inl rfl) (ihN rfl) rfl ?_
  refine bjmp (tg := 71) (pc' := 66) rfl (by decide) (by decide) rfl dX0_comes_63 rfl (ihN rfl) rfl ?_
  exact trivial
theorem bf_X0_comes_66 : BOKt mt tX0_comes 374 66 b_X0_comes_66 := by
  refine bplain (pc' := 68) rfl dX0_comes_66 rfl (ihN rfl) rfl ?_
  refine bthr (pc' := 71) rfl dX0_comes_68 rfl (lkf1 (host := "StrideTurns") (by decide) q1696 lf_322) (trivial) (ihN rfl) rfl ?_
  exact bnop0 rfl (by decide)
theorem bf_X0_comes_71 : BOKt mt tX0_comes 374 71 b_X0_comes_71 := by
  refine bnop1 ?_
  refine bplain (pc' := 73) rfl dX0_comes_71 rfl (ihN rfl) rfl ?_
  refine bplain (pc' := 75) rfl dX0_comes_73 rfl (ihN rfl) rfl ?_
  refine bplain (pc' := 77) rfl dX0_comes_75 rfl (ihN rfl) rfl ?_
  refine bplain (pc' := 78) rfl dX0_comes_77 rfl (ihN rfl) rfl ?_
  refine bplain (pc' := 80) rfl dX0_comes_78 rfl (ihN rfl) rfl ?_
  refine bthr (pc' := 83) rfl dX0_comes_80 rfl (lkf1 (host := "StrideTurns") (by decide) q1229 lf_211) (trivial) (ihN rfl) rfl ?_
  refine bcall (pc' := 86) rfl dX0_comes_83 rfl (trivial) (lcs (l := q1518) mt_J8_max ⟨by decide, by decide⟩ mok_J8_max rfl ln_252 (Or.inl q2424)) (ihN rfl) rfl ?_
  refine bplain (pc' := 88) rfl dX0_comes_86 rfl (ihN rfl) rfl ?_
  refine bplain (pc' := 89) rfl dX0_comes_88 rfl (ihN rfl) rfl ?_
  refine bcall (pc' := 92) rfl dX0_comes_89 rfl (trivial) (lcv (n := 1) rfl (pvc (lfv mt_X4_at ⟨by decide, by decide⟩ mok_X4_at ⟨by decide, by decide⟩ ⟨q2401, ln_468, Or.inl ⟨q2515, Or.inl q2402⟩⟩) (trivial)) (Or.inl (by decide))) (ihN rfl) rfl ?_
  refine bplain (pc' := 94) rfl dX0_comes_92 rfl (ihN rfl) rfl ?_
  refine bcall (pc' := 97) rfl dX0_comes_94 rfl (trivial) (lcs (l := q2426) mt_X0_done ⟨by decide, by decide⟩ mok_X0_done rfl ln_531 (Or.inl q2516)) (ihN rfl) rfl ?_
  refine bcall (pc' := 100) rfl dX0_comes_97 rfl (trivial) (lcv (n := 1) rfl (pvc (lfv mt_X4_cast ⟨by decide, by decide⟩ mok_X4_cast ⟨by decide, by decide⟩ ⟨q2441, ln_532, Or.inl ⟨q2517, Or.inl q2442⟩⟩) (trivial)) (Or.inl (by decide))) (ihN rfl) rfl ?_
  refine bplain (pc' := 102) rfl dX0_comes_100 rfl (ihN rfl) rfl ?_
  exact bnop0 rfl (by decide)
theorem bf_X0_comes_102 : BOKt mt tX0_comes 374 102 b_X0_comes_102 := by
  refine bnop1 ?_
  refine bplain (pc' := 104) rfl dX0_comes_102 rfl (ihN rfl) rfl ?_
  refine bplain (pc' := 105) rfl dX0_comes_104 rfl (ihN rfl) rfl ?_
  refine bplain (pc' := 107) rfl dX0_comes_105 rfl (ihN rfl) rfl ?_
  refine bcall (pc' := 110) rfl dX0_comes_107 rfl (trivial) (lcv (n := 2) rfl (pvc (lfv mt_X4_becomes ⟨by decide, by decide⟩ mok_X4_becomes ⟨by decide, by decide⟩ ⟨q2452, ln_533, Or.inl ⟨q2518, Or.inl q2453⟩⟩) (trivial)) (Or.inl (by decide))) (ihN rfl) rfl ?_
  refine bplain (pc' := 112) rfl dX0_comes_110 rfl (ihN rfl) rfl ?_
  refine bthr (pc' := 115) rfl dX0_comes_112 rfl (lkf1 (host := "StrideTurns") (by decide) q1234 lf_218) (trivial) (ihN rfl) rfl ?_
  refine bplain (pc' := 116) rfl dX0_comes_115 rfl (ihN rfl) rfl ?_
  refine bplain (pc' := 117) rfl dX0_comes_116 rfl (ihN rfl) rfl ?_
  refine bthr (pc' := 120) rfl dX0_comes_117 rfl (lkf1 (host := "StrideTurns") (by decide) q1086 lf_459) (trivial) (ihN rfl) rfl ?_
  refine bplain (pc' := 121) rfl dX0_comes_120 rfl (ihN rfl) rfl ?_
  refine bret (pc' := 122) rfl dX0_comes_121 rfl (rfl) (ihN rfl) rfl ?_
  exact trivial
theorem tf_X0_comes : ∀ x ∈ tb_X0_comes, BOK mt 374 x.1 x.2 := tb_c mt_X0_comes bf_X0_comes_0 (tb_c mt_X0_comes bf_X0_comes_66 (tb_c mt_X0_comes bf_X0_comes_71 (tb_c mt_X0_comes bf_X0_comes_102 (tb_n))))
theorem bf_X0_comesOut_0 : BOKt mt tX0_comesOut 375 0 b_X0_comesOut_0 := by
  refine bplain (pc' := 1) rfl dX0_comesOut_0 rfl (ihN rfl) rfl ?_
  refine bplain (pc' := 2) rfl dX0_comesOut_1 rfl (ihN rfl) rfl ?_
  exact bnop0 rfl (by decide)
theorem bf_X0_comesOut_2 : BOKt mt tX0_comesOut 375 2 b_X0_comesOut_2 := by
  refine bnop1 ?_
  refine bplain (pc' := 3) rfl dX0_comesOut_2 rfl (ihN rfl) rfl ?_
  refine bplain (pc' := 5) rfl dX0_comesOut_3 rfl (ihN rfl) rfl ?_
  refine bjmp (tg := 104) (pc' := 8) rfl (by decide) (by decide) rfl dX0_comesOut_5 rfl (ihN rfl) rfl ?_
  refine bplain (pc' := 9) rfl dX0_comesOut_8 rfl (ihN rfl) rfl ?_
  refine bthr (pc' := 12) rfl dX0_comesOut_9 rfl (lkf0 q1124 lf_126) (trivial) (ihN rfl) rfl ?_
  refine bplain (pc' := 13) rfl dX0_comesOut_12 rfl (ihN rfl) rfl ?_
  refine bplain (pc' := 14) rfl dX0_comesOut_13 rfl (ihN rfl) rfl ?_
  refine bplain (pc' := 15) rfl dX0_comesOut_14 rfl (ihN rfl) rfl ?_
  refine bjmp (tg := 98) (pc' := 18) rfl (by decide) (by decide) rfl dX0_comesOut_15 rfl (ihN rfl) rfl ?_
  refine bplain (pc' := 19) rfl dX0_comesOut_18 rfl (ihN rfl) rfl ?_
  refine bthr (pc' := 22) rfl dX0_comesOut_19 rfl (lkf0 q1112 lf_113) (trivial) (ihN rfl) rfl ?_
  refine bplain (pc' := 23) rfl dX0_comesOut_22 rfl (ihN rfl) rfl ?_
  refine bplain (pc' := 24) rfl dX0_comesOut_23 rfl (ihN rfl) rfl ?_
  refine bjmp (tg := 30) (pc' := 27) rfl (by decide) (by decide) rfl dX0_comesOut_24 rfl (ihN rfl) rfl ?_
  refine bjmp (tg := 98) (pc' := 30) rfl (by decide) (by decide) rfl dX0_comesOut_27 rfl (ihN rfl) rfl ?_
  exact trivial
theorem bf_X0_comesOut_30 : BOKt mt tX0_comesOut 375 30 b_X0_comesOut_30 := by
  refine bplain (pc' := 31) rfl dX0_comesOut_30 rfl (ihN rfl) rfl ?_
  refine bplain (pc' := 32) rfl dX0_comesOut_31 rfl (ihN rfl) rfl ?_
  exact bnop0 rfl (by decide)
theorem bf_X0_comesOut_32 : BOKt mt tX0_comesOut 375 32 b_X0_comesOut_32 := by
  refine bnop1 ?_
  refine bplain (pc' := 33) rfl dX0_comesOut_32 rfl (ihN rfl) rfl ?_
  refine bplain (pc' := 34) rfl dX0_comesOut_33 rfl (ihN rfl) rfl ?_
  refine bthr (pc' := 37) rfl dX0_comesOut_34 rfl (lkf0 q1112 lf_113) (trivial) (ihN rfl) rfl ?_
  refine bplain (pc' := 38) rfl dX0_comesOut_37 rfl (ihN rfl) rfl ?_
  refine bplain (pc' := 39) rfl dX0_comesOut_38 rfl (ihN rfl) rfl ?_
  refine bthr (pc' := 42) rfl dX0_comesOut_39 rfl (lkf1 (host := "StrideTurns") (by decide) q1231 lf_216) (trivial) (ihN rfl) rfl ?_
  refine bjmp (tg := 98) (pc' := 45) rfl (by decide) (by decide) rfl dX0_comesOut_42 rfl (ihN rfl) rfl ?_
  refine bplain (pc' := 46) rfl dX0_comesOut_45 rfl (ihN rfl) rfl ?_
  refine bplain (pc' := 47) rfl dX0_comesOut_46 rfl (ihN rfl) rfl ?_
  exact bnop0 rfl (by decide)
theorem bf_X0_comesOut_47 : BOKt mt tX0_comesOut 375 47 b_X0_comesOut_47 := by
  refine bplain (pc' := 48) rfl dX0_comesOut_47 rfl (ihN rfl) rfl ?_
  refine bplain (pc' := 49) rfl dX0_comesOut_48 rfl (ihN rfl) rfl ?_
  refine bthr (pc' := 52) rfl dX0_comesOut_49 rfl (lkf0 q1118 lf_270) (trivial) (ihN rfl) rfl ?_
  refine bjmp (tg := 92) (pc' := 55) rfl (by decide) (by decide) rfl dX0_comesOut_52 rfl (ihN rfl) rfl ?_
  refine bplain (pc' := 56) rfl dX0_comesOut_55 rfl (ihN rfl) rfl ?_
  refine bthr (pc' := 59) rfl dX0_comesOut_56 rfl (lkf0 q1128 lf_131) (trivial) (ihN rfl) rfl ?_
  refine bplain (pc' := 60) rfl dX0_comesOut_59 rfl (ihN rfl) rfl ?_
  refine bplain (pc' := 61) rfl dX0_comesOut_60 rfl (ihN rfl) rfl ?_
  refine bthr (pc' := 64) rfl dX0_comesOut_61 rfl (lkf1 (host := "StrideTurns") (by decide) q1084 lf_108) (trivial) (ihN rfl) rfl ?_
  refine bplain (pc' := 66) rfl dX0_comesOut_64 rfl (ihN rfl) rfl ?_
  refine bplain (pc' := 67) rfl dX0_comesOut_66 rfl (ihN rfl) rfl ?_
  refine bplain (pc' := 68) rfl dX0_comesOut_67 rfl (ihN rfl) rfl ?_
  refine bplain (pc' := 69) rfl dX0_comesOut_68 rfl (ihN rfl) rfl ?_
  refine bplain (pc' := 70) rfl dX0_comesOut_69 rfl (ihN rfl) rfl ?_
  refine bplain (pc' := 71) rfl dX0_comesOut_70 rfl (ihN rfl) rfl ?_
  refine bjmp (tg := 86) (pc' := 74) rfl (by decide) (by decide) rfl dX0_comesOut_71 rfl (ihN rfl) rfl ?_
  refine bplain (pc' := 75) rfl dX0_comesOut_74 rfl (ihN rfl) rfl ?_
  refine bplain (pc' := 76) rfl dX0_comesOut_75 rfl (ihN rfl) rfl ?_
  refine bplain (pc' := 77) rfl dX0_comesOut_76 rfl (ihN rfl) rfl ?_
  refine bplain (pc' := 78) rfl dX0_comesOut_77 rfl (ihN rfl) rfl ?_
  refine bthr (pc' := 81) rfl dX0_comesOut_78 rfl (lkf0 q1128 lf_131) (trivial) (ihN rfl) rfl ?_
  refine bplain (pc' := 82) rfl dX0_comesOut_81 rfl (ihN rfl) rfl ?_
  refine bplain (pc' := 83) rfl dX0_comesOut_82 rfl (ihN rfl) rfl ?_
  refine bcall (pc' := 86) rfl dX0_comesOut_83 rfl (trivial) (lcv (n := 3) rfl (pvc (lfv mt_X0_comes ⟨by decide, by decide⟩ mok_X0_comes ⟨by decide, by decide⟩ ⟨q2508, ln_567, Or.inl ⟨q2506, Or.inl qs50⟩⟩) (trivial)) (Or.inl (by decide))) (ihN rfl) rfl ?_
  exact bnop0 rfl (by decide)
theorem bf_X0_comesOut_86 : BOKt mt tX0_comesOut 375 86 b_X0_comesOut_86 := by
  refine bplain (pc' := 89) rfl dX0_comesOut_86 rfl (ihN rfl) rfl ?_
  refine bjmp (tg := 47) (pc' := 92) rfl (by decide) (by decide) rfl dX0_comesOut_89 rfl (ihN rfl) rfl ?_
  exact trivial
theorem bf_X0_comesOut_92 : BOKt mt tX0_comesOut 375 92 b_X0_comesOut_92 := by
  refine bplain (pc' := 95) rfl dX0_comesOut_92 rfl (ihN rfl) rfl ?_
  refine bjmp (tg := 32) (pc' := 98) rfl (by decide) (by decide) rfl dX0_comesOut_95 rfl (ihN rfl) rfl ?_
  exact trivial
theorem bf_X0_comesOut_98 : BOKt mt tX0_comesOut 375 98 b_X0_comesOut_98 := by
  refine bnop1 ?_
  refine bplain (pc' := 101) rfl dX0_comesOut_98 rfl (ihN rfl) rfl ?_
  refine bjmp (tg := 2) (pc' := 104) rfl (by decide) (by decide) rfl dX0_comesOut_101 rfl (ihN rfl) rfl ?_
  exact trivial
theorem bf_X0_comesOut_104 : BOKt mt tX0_comesOut 375 104 b_X0_comesOut_104 := by
  refine bret (pc' := 105) rfl dX0_comesOut_104 rfl (rfl) (ihN rfl) rfl ?_
  exact trivial
theorem tf_X0_comesOut : ∀ x ∈ tb_X0_comesOut, BOK mt 375 x.1 x.2 := tb_c mt_X0_comesOut bf_X0_comesOut_0 (tb_c mt_X0_comesOut bf_X0_comesOut_2 (tb_c mt_X0_comesOut bf_X0_comesOut_30 (tb_c mt_X0_comesOut bf_X0_comesOut_32 (tb_c mt_X0_comesOut bf_X0_comesOut_47 (tb_c mt_X0_comesOut bf_X0_comesOut_86 (tb_c mt_X0_comesOut bf_X0_comesOut_92 (tb_c mt_X0_comesOut bf_X0_comesOut_98 (tb_c mt_X0_comesOut bf_X0_comesOut_104 (tb_n)))))))))
theorem bf_X0_mixes_0 : BOKt mt tX0_mixes 376 0 b_X0_mixes_0 := by
  refine bplain (pc' := 1) rfl dX0_mixes_0 rfl (ihN rfl) rfl ?_
  refine bplain (pc' := 2) rfl dX0_mixes_1 rfl (ihN rfl) rfl ?_
  refine bcall (pc' := 5) rfl dX0_mixes_2 rfl (trivial) (lcv (n := 1) rfl (pvc (lfv mt_X0_begins ⟨by decide, by decide⟩ mok_X0_begins ⟨by decide, by decide⟩ ⟨q2351, ln_92, Or.inl ⟨q2349, Or.inl qs38⟩⟩) (trivial)) (Or.inl (by decide))) (ihN rfl) rfl ?_
  refine bplain (pc' := 6) rfl dX0_mixes_5 rfl (ihN rfl) rfl ?_
  refine bplain (pc' := 7) rfl dX0_mixes_6 rfl (ihN rfl) rfl ?_
  refine bplain (pc' := 8) rfl dX0_mixes_7 rfl (ihN rfl) rfl ?_
  refine bcall (pc' := 11) rfl dX0_mixes_8 rfl (trivial) (lcv (n := 2) rfl (pvc (lfv mt_X0_dealOf ⟨by decide, by decide⟩ mok_X0_dealOf ⟨by decide, by decide⟩ ⟨q2488, ln_568, Or.inl ⟨q2486, Or.inl qs47⟩⟩) (trivial)) (Or.inl (by decide))) (ihN rfl) rfl ?_
  refine bplain (pc' := 13) rfl dX0_mixes_11 rfl (ihN rfl) rfl ?_
  refine bplain (pc' := 14) rfl dX0_mixes_13 rfl (ihN rfl) rfl ?_
  refine bplain (pc' := 16) rfl dX0_mixes_14 rfl (ihN rfl) rfl ?_
  refine bplain (pc' := 17) rfl dX0_mixes_16 rfl (ihN rfl) rfl ?_
  refine bobj (pc' := 20) rfl dX0_mixes_17 rfl (⟨"StrideTurns$Turn", by decide, rfl, q1074, q1075⟩) (ihN rfl) rfl ?_
  refine bplain (pc' := 22) rfl dX0_mixes_20 rfl (ihN rfl) rfl ?_
  refine bplain (pc' := 23) rfl dX0_mixes_22 rfl (ihN rfl) rfl ?_
  refine bplain (pc' := 25) rfl dX0_mixes_23 rfl (ihN rfl) rfl ?_
  exact bnop0 rfl (by decide)
theorem bf_X0_mixes_25 : BOKt mt tX0_mixes 376 25 b_X0_mixes_25 := by
  refine bnop1 ?_
  refine bplain (pc' := 27) rfl dX0_mixes_25 rfl (ihN rfl) rfl ?_
  refine bjmp (tg := 122) (pc' := 30) rfl (by decide) (by decide) rfl dX0_mixes_27 rfl (ihN rfl) rfl ?_
  refine bplain (pc' := 31) rfl dX0_mixes_30 rfl (ihN rfl) rfl ?_
  refine bplain (pc' := 33) rfl dX0_mixes_31 rfl (ihN rfl) rfl ?_
  refine bplain (pc' := 34) rfl dX0_mixes_33 rfl (ihN rfl) rfl ?_
  refine bplain (pc' := 36) rfl dX0_mixes_34 rfl (ihN rfl) rfl ?_
  exact bnop0 rfl (by decide)
theorem bf_X0_mixes_36 : BOKt mt tX0_mixes 376 36 b_X0_mixes_36 := by
  refine bnop1 ?_
  refine bplain (pc' := 38) rfl dX0_mixes_36 rfl (ihN rfl) rfl ?_
  refine bplain (pc' := 39) rfl dX0_mixes_38 rfl (ihN rfl) rfl ?_
  refine bjmp (tg := 86) (pc' := 42) rfl (by decide) (by decide) rfl dX0_mixes_39 rfl (ihN rfl) rfl ?_
  refine bplain (pc' := 43) rfl dX0_mixes_42 rfl (ihN rfl) rfl ?_
  refine bplain (pc' := 45) rfl dX0_mixes_43 rfl (ihN rfl) rfl ?_
  refine bplain (pc' := 47) rfl dX0_mixes_45 rfl (ihN rfl) rfl ?_
  refine bplain (pc' := 48) rfl dX0_mixes_47 rfl (ihN rfl) rfl ?_
  refine bplain (pc' := 49) rfl dX0_mixes_48 rfl (ihN rfl) rfl ?_
  refine bjmp (tg := 56) (pc' := 52) rfl (by decide) (by decide) rfl dX0_mixes_49 rfl (ihN rfl) rfl ?_
  refine bplain (pc' := 53) rfl dX0_mixes_52 rfl (ihN rfl) rfl ?_
  refine bjmp (tg := 57) (pc' := 56) rfl (by decide) (by decide) rfl dX0_mixes_53 rfl (ihN rfl) rfl ?_
  exact trivial
theorem bf_X0_mixes_56 : BOKt mt tX0_mixes 376 56 b_X0_mixes_56 := by
  refine bplain (pc' := 57) rfl dX0_mixes_56 rfl (ihN rfl) rfl ?_
  exact bnop0 rfl (by decide)
theorem bf_X0_mixes_57 : BOKt mt tX0_mixes 376 57 b_X0_mixes_57 := by
  refine bnop1 ?_
  refine bcall (pc' := 60) rfl dX0_mixes_57 rfl (trivial) (lcv (n := 3) rfl (pvc (lfv mt_X0_next ⟨by decide, by decide⟩ mok_X0_next ⟨by decide, by decide⟩ ⟨q2496, ln_569, Or.inl ⟨q2494, Or.inl qs48⟩⟩) (trivial)) (Or.inl (by decide))) (ihN rfl) rfl ?_
  refine bplain (pc' := 62) rfl dX0_mixes_60 rfl (ihN rfl) rfl ?_
  refine bplain (pc' := 64) rfl dX0_mixes_62 rfl (ihN rfl) rfl ?_
  refine bjmp (tg := 70) (pc' := 67) rfl (by decide) (by decide) rfl dX0_mixes_64 rfl (ihN rfl) rfl ?_
  refine bjmp (tg := 80) (pc' := 70) rfl (by decide) (by decide) rfl dX0_mixes_67 rfl (ihN rfl) rfl ?_
  exact trivial
theorem bf_X0_mixes_70 : BOKt mt tX0_mixes 376 70 b_X0_mixes_70 := by
  refine bplain (pc' := 72) rfl dX0_mixes_70 rfl (ihN rfl) rfl ?_
  refine bplain (pc' := 74) rfl dX0_mixes_72 rfl (ihN rfl) rfl ?_
  refine bplain (pc' := 76) rfl dX0_mixes_74 rfl (ihN rfl) rfl ?_
  refine bplain (pc' := 77) rfl dX0_mixes_76 rfl (ihN rfl) rfl ?_
  refine bplain (pc' := 80) rfl dX0_mixes_77 rfl (ihN rfl) rfl ?_
  exact bnop0 rfl (by decide)
theorem bf_X0_mixes_80 : BOKt mt tX0_mixes 376 80 b_X0_mixes_80 := by
  refine bnop1 ?_
  refine bplain (pc' := 83) rfl dX0_mixes_80 rfl (ihN rfl) rfl ?_
  refine bjmp (tg := 36) (pc' := 86) rfl (by decide) (by decide) rfl dX0_mixes_83 rfl (ihN rfl) rfl ?_
  exact trivial
theorem bf_X0_mixes_86 : BOKt mt tX0_mixes 376 86 b_X0_mixes_86 := by
  refine bplain (pc' := 88) rfl dX0_mixes_86 rfl (ihN rfl) rfl ?_
  refine bjmp (tg := 94) (pc' := 91) rfl (by decide) (by decide) rfl dX0_mixes_88 rfl (ihN rfl) rfl ?_
  refine bjmp (tg := 122) (pc' := 94) rfl (by decide) (by decide) rfl dX0_mixes_91 rfl (ihN rfl) rfl ?_
  exact trivial
theorem bf_X0_mixes_94 : BOKt mt tX0_mixes 376 94 b_X0_mixes_94 := by
  refine bplain (pc' := 95) rfl dX0_mixes_94 rfl (ihN rfl) rfl ?_
  refine bplain (pc' := 97) rfl dX0_mixes_95 rfl (ihN rfl) rfl ?_
  refine bplain (pc' := 99) rfl dX0_mixes_97 rfl (ihN rfl) rfl ?_
  refine bplain (pc' := 101) rfl dX0_mixes_99 rfl (ihN rfl) rfl ?_
  refine bplain (pc' := 102) rfl dX0_mixes_101 rfl (ihN rfl) rfl ?_
  refine bplain (pc' := 103) rfl dX0_mixes_102 rfl (ihN rfl) rfl ?_
  refine bcall (pc' := 106) rfl dX0_mixes_103 rfl (trivial) (lcv (n := 1) rfl (pvc (lfv mt_X0_steps ⟨by decide, by decide⟩ mok_X0_steps ⟨by decide, by decide⟩ ⟨q2371, ln_538, Or.inl ⟨q2369, Or.inl qs39⟩⟩) (trivial)) (Or.inl (by decide))) (ihN rfl) rfl ?_
  refine bplain (pc' := 108) rfl dX0_mixes_106 rfl (ihN rfl) rfl ?_
  refine bplain (pc' := 110) rfl dX0_mixes_108 rfl (ihN rfl) rfl ?_
  refine bplain (pc' := 111) rfl dX0_mixes_110 rfl (ihN rfl) rfl ?_
  refine bplain (pc' := 113) rfl dX0_mixes_111 rfl (ihN rfl) rfl ?_
  refine bplain (pc' := 114) rfl dX0_mixes_113 rfl (ihN rfl) rfl ?_
  refine bplain (pc' := 116) rfl dX0_mixes_114 rfl (ihN rfl) rfl ?_
  refine bplain (pc' := 117) rfl dX0_mixes_116 rfl (ihN rfl) rfl ?_
  refine bplain (pc' := 119) rfl dX0_mixes_117 rfl (ihN rfl) rfl ?_
  refine bjmp (tg := 25) (pc' := 122) rfl (by decide) (by decide) rfl dX0_mixes_119 rfl (ihN rfl) rfl ?_
  exact trivial
theorem bf_X0_mixes_122 : BOKt mt tX0_mixes 376 122 b_X0_mixes_122 := by
  refine bnop1 ?_
  refine bplain (pc' := 123) rfl dX0_mixes_122 rfl (ihN rfl) rfl ?_
  refine bcall (pc' := 126) rfl dX0_mixes_123 rfl (trivial) (lcv (n := 0) rfl (pvc (lfv mt_X0_comesOut ⟨by decide, by decide⟩ mok_X0_comesOut ⟨by decide, by decide⟩ ⟨q2504, ln_0, Or.inl ⟨q2502, Or.inl qs49⟩⟩) (trivial)) (Or.inl (by decide))) (ihN rfl) rfl ?_
  refine bret (pc' := 127) rfl dX0_mixes_126 rfl (rfl) (ihN rfl) rfl ?_
  exact trivial
theorem tf_X0_mixes : ∀ x ∈ tb_X0_mixes, BOK mt 376 x.1 x.2 := tb_c mt_X0_mixes bf_X0_mixes_0 (tb_c mt_X0_mixes bf_X0_mixes_25 (tb_c mt_X0_mixes bf_X0_mixes_36 (tb_c mt_X0_mixes bf_X0_mixes_56 (tb_c mt_X0_mixes bf_X0_mixes_57 (tb_c mt_X0_mixes bf_X0_mixes_70 (tb_c mt_X0_mixes bf_X0_mixes_80 (tb_c mt_X0_mixes bf_X0_mixes_86 (tb_c mt_X0_mixes bf_X0_mixes_94 (tb_c mt_X0_mixes bf_X0_mixes_122 (tb_n))))))))))
theorem bf_X0_mixed_0 : BOKt mt tX0_mixed 377 0 b_X0_mixed_0 := by
  refine bplain (pc' := 1) rfl dX0_mixed_0 rfl (ihN rfl) rfl ?_
  refine bplain (pc' := 2) rfl dX0_mixed_1 rfl (ihN rfl) rfl ?_
  refine bplain (pc' := 3) rfl dX0_mixed_2 rfl (ihN rfl) rfl ?_
  refine bplain (pc' := 5) rfl dX0_mixed_3 rfl (ihN rfl) rfl ?_
  refine bcall (pc' := 8) rfl dX0_mixed_5 rfl (trivial) (lcs (l := q2468) mt_X0_isMix ⟨by decide, by decide⟩ mok_X0_isMix rfl ln_570 (Or.inl q2467)) (ihN rfl) rfl ?_
  refine bjmp (tg := 14) (pc' := 11) rfl (by decide) (by decide) rfl dX0_mixed_8 rfl (ihN rfl) rfl ?_
  refine bplain (pc' := 13) rfl dX0_mixed_11 rfl (ihN rfl) rfl ?_
  refine bret (pc' := 14) rfl dX0_mixed_13 rfl (Or.inl ⟨rfl, rfl⟩) (ihN rfl) rfl ?_
  exact trivial
theorem bf_X0_mixed_14 : BOKt mt tX0_mixed 377 14 b_X0_mixed_14 := by
  refine bplain (pc' := 16) rfl dX0_mixed_14 rfl (ihN rfl) rfl ?_
  refine bjmp (tg := 29) (pc' := 19) rfl (by decide) (by decide) rfl dX0_mixed_16 rfl (ihN rfl) rfl ?_
  refine bplain (pc' := 20) rfl dX0_mixed_19 rfl (ihN rfl) rfl ?_
  refine bcall (pc' := 23) rfl dX0_mixed_20 rfl (trivial) (lcv (n := 0) rfl (pvc (lfv mt_X0_isParallel ⟨by decide, by decide⟩ mok_X0_isParallel ⟨by decide, by decide⟩ ⟨q2476, ln_30, Or.inl ⟨q2474, Or.inl qs44⟩⟩) (trivial)) (Or.inl (by decide))) (ihN rfl) rfl ?_
  refine bjmp (tg := 29) (pc' := 26) rfl (by decide) (by decide) rfl dX0_mixed_23 rfl (ihN rfl) rfl ?_
  refine bplain (pc' := 28) rfl dX0_mixed_26 rfl (ihN rfl) rfl ?_
  refine bret (pc' := 29) rfl dX0_mixed_28 rfl (Or.inl ⟨rfl, rfl⟩) (ihN rfl) rfl ?_
  exact trivial
theorem bf_X0_mixed_29 : BOKt mt tX0_mixed 377 29 b_X0_mixed_29 := by
  refine bnop1 ?_
  refine bplain (pc' := 30) rfl dX0_mixed_29 rfl (ihN rfl) rfl ?_
  refine bplain (pc' := 31) rfl dX0_mixed_30 rfl (ihN rfl) rfl ?_
  refine bplain (pc' := 32) rfl dX0_mixed_31 rfl (ihN rfl) rfl ?_
  refine bplain (pc' := 33) rfl dX0_mixed_32 rfl (ihN rfl) rfl ?_
  refine bcall (pc' := 36) rfl dX0_mixed_33 rfl (trivial) (lcv (n := 3) rfl (pvc (lfv mt_X0_mixes ⟨by decide, by decide⟩ mok_X0_mixes ⟨by decide, by decide⟩ ⟨q2484, ln_237, Or.inl ⟨q2482, Or.inl qs46⟩⟩) (trivial)) (Or.inl (by decide))) (ihN rfl) rfl ?_
  refine bplain (pc' := 37) rfl dX0_mixed_36 rfl (ihN rfl) rfl ?_
  refine bcall (pc' := 40) rfl dX0_mixed_37 rfl (trivial) (lcv (n := 0) rfl (pvc (lfv mt_X0_tellsRun ⟨by decide, by decide⟩ mok_X0_tellsRun ⟨by decide, by decide⟩ ⟨q2461, ln_40, Or.inl ⟨q2459, Or.inl qs43⟩⟩) (trivial)) (Or.inl (by decide))) (ihN rfl) rfl ?_
  refine bret (pc' := 41) rfl dX0_mixed_40 rfl (Or.inl ⟨rfl, rfl⟩) (ihN rfl) rfl ?_
  exact trivial
theorem tf_X0_mixed : ∀ x ∈ tb_X0_mixed, BOK mt 377 x.1 x.2 := tb_c mt_X0_mixed bf_X0_mixed_0 (tb_c mt_X0_mixed bf_X0_mixed_14 (tb_c mt_X0_mixed bf_X0_mixed_29 (tb_n)))
theorem bf_X3_serials_0 : BOKt mt tX3_serials 378 0 b_X3_serials_0 := by
  refine bplain (pc' := 1) rfl dX3_serials_0 rfl (ihN rfl) rfl ?_
  refine bplain (pc' := 2) rfl dX3_serials_1 rfl (ihN rfl) rfl ?_
  refine bplain (pc' := 3) rfl dX3_serials_2 rfl (ihN rfl) rfl ?_
  refine bplain (pc' := 4) rfl dX3_serials_3 rfl (ihN rfl) rfl ?_
  exact bnop0 rfl (by decide)
theorem bf_X3_serials_4 : BOKt mt tX3_serials 378 4 b_X3_serials_4 := by
  refine bplain (pc' := 5) rfl dX3_serials_4 rfl (ihN rfl) rfl ?_
  refine bplain (pc' := 7) rfl dX3_serials_5 rfl (ihN rfl) rfl ?_
  refine bjmp (tg := 33) (pc' := 10) rfl (by decide) (by decide) rfl dX3_serials_7 rfl (ihN rfl) rfl ?_
  refine bplain (pc' := 11) rfl dX3_serials_10 rfl (ihN rfl) rfl ?_
  refine bplain (pc' := 12) rfl dX3_serials_11 rfl (ihN rfl) rfl ?_
  refine bplain (pc' := 13) rfl dX3_serials_12 rfl (ihN rfl) rfl ?_
  refine bcall (pc' := 16) rfl dX3_serials_13 rfl (trivial) (lcv (n := 1) rfl (pvc (lfv mt_X3_verdictOf ⟨by decide, by decide⟩ mok_X3_verdictOf ⟨by decide, by decide⟩ ⟨q3007, ln_225, Or.inl ⟨q3005, Or.inl qs99⟩⟩) (trivial)) (Or.inl (by decide))) (ihN rfl) rfl ?_
  refine bplain (pc' := 17) rfl dX3_serials_16 rfl (ihN rfl) rfl ?_
  refine bjmp (tg := 24) (pc' := 20) rfl (by decide) (by decide) rfl dX3_serials_17 rfl (ihN rfl) rfl ?_
  refine bplain (pc' := 21) rfl dX3_serials_20 rfl (ihN rfl) rfl ?_
  refine bjmp (tg := 25) (pc' := 24) rfl (by decide) (by decide) rfl dX3_serials_21 rfl (ihN rfl) rfl ?_
  exact trivial
theorem bf_X3_serials_24 : BOKt mt tX3_serials 378 24 b_X3_serials_24 := by
  refine bplain (pc' := 25) rfl dX3_serials_24 rfl (ihN rfl) rfl ?_
  exact bnop0 rfl (by decide)
theorem bf_X3_serials_25 : BOKt mt tX3_serials 378 25 b_X3_serials_25 := by
  refine bnop1 ?_
  refine bplain (pc' := 26) rfl dX3_serials_25 rfl (ihN rfl) rfl ?_
  refine bplain (pc' := 27) rfl dX3_serials_26 rfl (ihN rfl) rfl ?_
  refine bplain (pc' := 30) rfl dX3_serials_27 rfl (ihN rfl) rfl ?_
  refine bjmp (tg := 4) (pc' := 33) rfl (by decide) (by decide) rfl dX3_serials_30 rfl (ihN rfl) rfl ?_
  exact trivial
theorem bf_X3_serials_33 : BOKt mt tX3_serials 378 33 b_X3_serials_33 := by
  refine bplain (pc' := 34) rfl dX3_serials_33 rfl (ihN rfl) rfl ?_
  refine bret (pc' := 35) rfl dX3_serials_34 rfl (Or.inl ⟨rfl, rfl⟩) (ihN rfl) rfl ?_
  exact trivial
theorem tf_X3_serials : ∀ x ∈ tb_X3_serials, BOK mt 378 x.1 x.2 := tb_c mt_X3_serials bf_X3_serials_0 (tb_c mt_X3_serials bf_X3_serials_4 (tb_c mt_X3_serials bf_X3_serials_24 (tb_c mt_X3_serials bf_X3_serials_25 (tb_c mt_X3_serials bf_X3_serials_33 (tb_n)))))
theorem bf_X3_mayMix_0 : BOKt mt tX3_mayMix 379 0 b_X3_mayMix_0 := by
  refine bplain (pc' := 1) rfl dX3_mayMix_0 rfl (ihN rfl) rfl ?_
  refine bplain (pc' := 2) rfl dX3_mayMix_1 rfl (ihN rfl) rfl ?_
  refine bplain (pc' := 3) rfl dX3_mayMix_2 rfl (ihN rfl) rfl ?_
  refine bcall (pc' := 6) rfl dX3_mayMix_3 rfl (trivial) (lcs (l := q2747) mt_X3_in ⟨by decide, by decide⟩ mok_X3_in rfl ln_226 (Or.inl q2746)) (ihN rfl) rfl ?_
  refine bjmp (tg := 38) (pc' := 9) rfl (by decide) (by decide) rfl dX3_mayMix_6 rfl (ihN rfl) rfl ?_
  refine bplain (pc' := 10) rfl dX3_mayMix_9 rfl (ihN rfl) rfl ?_
  refine bplain (pc' := 11) rfl dX3_mayMix_10 rfl (ihN rfl) rfl ?_
  refine bplain (pc' := 12) rfl dX3_mayMix_11 rfl (ihN rfl) rfl ?_
  refine bcall (pc' := 15) rfl dX3_mayMix_12 rfl (trivial) (lcs (l := q2747) mt_X3_in ⟨by decide, by decide⟩ mok_X3_in rfl ln_226 (Or.inl q2746)) (ihN rfl) rfl ?_
  refine bjmp (tg := 38) (pc' := 18) rfl (by decide) (by decide) rfl dX3_mayMix_15 rfl (ihN rfl) rfl ?_
  refine bplain (pc' := 19) rfl dX3_mayMix_18 rfl (ihN rfl) rfl ?_
  refine bplain (pc' := 20) rfl dX3_mayMix_19 rfl (ihN rfl) rfl ?_
  refine bplain (pc' := 22) rfl dX3_mayMix_20 rfl (ihN rfl) rfl ?_
  refine bcall (pc' := 25) rfl dX3_mayMix_22 rfl (trivial) (lcs (l := q2747) mt_X3_in ⟨by decide, by decide⟩ mok_X3_in rfl ln_226 (Or.inl q2746)) (ihN rfl) rfl ?_
  refine bjmp (tg := 38) (pc' := 28) rfl (by decide) (by decide) rfl dX3_mayMix_25 rfl (ihN rfl) rfl ?_
  refine bplain (pc' := 30) rfl dX3_mayMix_28 rfl (ihN rfl) rfl ?_
  refine bplain (pc' := 31) rfl dX3_mayMix_30 rfl (ihN rfl) rfl ?_
  refine bplain (pc' := 32) rfl dX3_mayMix_31 rfl (ihN rfl) rfl ?_
  refine bcall (pc' := 35) rfl dX3_mayMix_32 rfl (trivial) (lcs (l := q2747) mt_X3_in ⟨by decide, by decide⟩ mok_X3_in rfl ln_226 (Or.inl q2746)) (ihN rfl) rfl ?_
  refine bjmp (tg := 41) (pc' := 38) rfl (by decide) (by decide) rfl dX3_mayMix_35 rfl (ihN rfl) rfl ?_
  exact bnop0 rfl (by decide)
theorem bf_X3_mayMix_38 : BOKt mt tX3_mayMix 379 38 b_X3_mayMix_38 := by
  refine bnop1 ?_
  refine bplain (pc' := 40) rfl dX3_mayMix_38 rfl (ihN rfl) rfl ?_
  refine bret (pc' := 41) rfl dX3_mayMix_40 rfl (Or.inl ⟨rfl, rfl⟩) (ihN rfl) rfl ?_
  exact trivial
theorem bf_X3_mayMix_41 : BOKt mt tX3_mayMix 379 41 b_X3_mayMix_41 := by
  refine bplain (pc' := 43) rfl dX3_mayMix_41 rfl (ihN rfl) rfl ?_
  refine bjmp (tg := 58) (pc' := 46) rfl (by decide) (by decide) rfl dX3_mayMix_43 rfl (ihN rfl) rfl ?_
  refine bplain (pc' := 47) rfl dX3_mayMix_46 rfl (ihN rfl) rfl ?_
  refine bcall (pc' := 50) rfl dX3_mayMix_47 rfl (trivial) (lcv (n := 0) rfl (pvc (lfv mt_X3_serials ⟨by decide, by decide⟩ mok_X3_serials ⟨by decide, by decide⟩ ⟨q3136, ln_40, Or.inl ⟨q3134, Or.inl qs123⟩⟩) (trivial)) (Or.inl (by decide))) (ihN rfl) rfl ?_
  refine bjmp (tg := 58) (pc' := 53) rfl (by decide) (by decide) rfl dX3_mayMix_50 rfl (ihN rfl) rfl ?_
  refine bplain (pc' := 55) rfl dX3_mayMix_53 rfl (ihN rfl) rfl ?_
  refine bjmp (tg := 59) (pc' := 58) rfl (by decide) (by decide) rfl dX3_mayMix_55 rfl (ihN rfl) rfl ?_
  exact trivial
theorem bf_X3_mayMix_58 : BOKt mt tX3_mayMix 379 58 b_X3_mayMix_58 := by
  refine bnop1 ?_
  refine bplain (pc' := 59) rfl dX3_mayMix_58 rfl (ihN rfl) rfl ?_
  exact bnop0 rfl (by decide)
theorem bf_X3_mayMix_59 : BOKt mt tX3_mayMix 379 59 b_X3_mayMix_59 := by
  refine bnop1 ?_
  refine bret (pc' := 60) rfl dX3_mayMix_59 rfl (Or.inl ⟨rfl, rfl⟩) (ihN rfl) rfl ?_
  exact trivial
theorem tf_X3_mayMix : ∀ x ∈ tb_X3_mayMix, BOK mt 379 x.1 x.2 := tb_c mt_X3_mayMix bf_X3_mayMix_0 (tb_c mt_X3_mayMix bf_X3_mayMix_38 (tb_c mt_X3_mayMix bf_X3_mayMix_41 (tb_c mt_X3_mayMix bf_X3_mayMix_58 (tb_c mt_X3_mayMix bf_X3_mayMix_59 (tb_n)))))
theorem bf_X3_turnOf_0 : BOKt mt tX3_turnOf 380 0 b_X3_turnOf_0 := by
  refine bplain (pc' := 1) rfl dX3_turnOf_0 rfl (ihN rfl) rfl ?_
  refine bthr (pc' := 4) rfl dX3_turnOf_1 rfl (lkf0 q2603 lf_274) (trivial) (ihN rfl) rfl ?_
  refine bplain (pc' := 5) rfl dX3_turnOf_4 rfl (ihN rfl) rfl ?_
  refine bplain (pc' := 6) rfl dX3_turnOf_5 rfl (ihN rfl) rfl ?_
  refine bplain (pc' := 7) rfl dX3_turnOf_6 rfl (ihN rfl) rfl ?_
  refine bplain (pc' := 8) rfl dX3_turnOf_7 rfl (ihN rfl) rfl ?_
  refine bplain (pc' := 9) rfl dX3_turnOf_8 rfl (ihN rfl) rfl ?_
  refine bplain (pc' := 10) rfl dX3_turnOf_9 rfl (ihN rfl) rfl ?_
  refine bplain (pc' := 12) rfl dX3_turnOf_10 rfl (ihN rfl) rfl ?_
  refine bplain (pc' := 13) rfl dX3_turnOf_12 rfl (ihN rfl) rfl ?_
  refine bplain (pc' := 15) rfl dX3_turnOf_13 rfl (ihN rfl) rfl ?_
  refine bplain (pc' := 16) rfl dX3_turnOf_15 rfl (ihN rfl) rfl ?_
  refine bplain (pc' := 18) rfl dX3_turnOf_16 rfl (ihN rfl) rfl ?_
  exact bnop0 rfl (by decide)
theorem bf_X3_turnOf_18 : BOKt mt tX3_turnOf 380 18 b_X3_turnOf_18 := by
  refine bnop1 ?_
  refine bplain (pc' := 20) rfl dX3_turnOf_18 rfl (ihN rfl) rfl ?_
  refine bplain (pc' := 21) rfl dX3_turnOf_20 rfl (ihN rfl) rfl ?_
  refine bthr (pc' := 24) rfl dX3_turnOf_21 rfl (lkf0 q2603 lf_274) (trivial) (ihN rfl) rfl ?_
  refine bjmp (tg := 116) (pc' := 27) rfl (by decide) (by decide) rfl dX3_turnOf_24 rfl (ihN rfl) rfl ?_
  refine bplain (pc' := 28) rfl dX3_turnOf_27 rfl (ihN rfl) rfl ?_
  refine bplain (pc' := 29) rfl dX3_turnOf_28 rfl (ihN rfl) rfl ?_
  refine bjmp (tg := 37) (pc' := 32) rfl (by decide) (by decide) rfl dX3_turnOf_29 rfl (ihN rfl) rfl ?_
  refine bplain (pc' := 34) rfl dX3_turnOf_32 rfl (ihN rfl) rfl ?_
  refine bjmp (tg := 46) (pc' := 37) rfl (by decide) (by decide) rfl dX3_turnOf_34 rfl (ihN rfl) rfl ?_
  exact trivial
theorem bf_X3_turnOf_37 : BOKt mt tX3_turnOf 380 37 b_X3_turnOf_37 := by
  refine bplain (pc' := 38) rfl dX3_turnOf_37 rfl (ihN rfl) rfl ?_
  refine bthr (pc' := 41) rfl dX3_turnOf_38 rfl (lkf0 q2603 lf_274) (trivial) (ihN rfl) rfl ?_
  refine bplain (pc' := 42) rfl dX3_turnOf_41 rfl (ihN rfl) rfl ?_
  refine bplain (pc' := 43) rfl dX3_turnOf_42 rfl (ihN rfl) rfl ?_
  refine bplain (pc' := 45) rfl dX3_turnOf_43 rfl (ihN rfl) rfl ?_
  refine bplain (pc' := 46) rfl dX3_turnOf_45 rfl (ihN rfl) rfl ?_
  exact bnop0 rfl (by decide)
theorem bf_X3_turnOf_46 : BOKt mt tX3_turnOf 380 46 b_X3_turnOf_46 := by
  refine bnop1 ?_
  refine bplain (pc' := 48) rfl dX3_turnOf_46 rfl (ihN rfl) rfl ?_
  refine bplain (pc' := 49) rfl dX3_turnOf_48 rfl (ihN rfl) rfl ?_
  refine bplain (pc' := 50) rfl dX3_turnOf_49 rfl (ihN rfl) rfl ?_
  refine bjmp (tg := 70) (pc' := 53) rfl (by decide) (by decide) rfl dX3_turnOf_50 rfl (ihN rfl) rfl ?_
  refine bplain (pc' := 55) rfl dX3_turnOf_53 rfl (ihN rfl) rfl ?_
  refine bplain (pc' := 57) rfl dX3_turnOf_55 rfl (ihN rfl) rfl ?_
  refine bplain (pc' := 58) rfl dX3_turnOf_57 rfl (ihN rfl) rfl ?_
  refine bplain (pc' := 59) rfl dX3_turnOf_58 rfl (ihN rfl) rfl ?_
  refine bjmp (tg := 66) (pc' := 62) rfl (by decide) (by decide) rfl dX3_turnOf_59 rfl (ihN rfl) rfl ?_
  refine bplain (pc' := 63) rfl dX3_turnOf_62 rfl (ihN rfl) rfl ?_
  refine bjmp (tg := 83) (pc' := 66) rfl (by decide) (by decide) rfl dX3_turnOf_63 rfl (ihN rfl) rfl ?_
  exact trivial
theorem bf_X3_turnOf_66 : BOKt mt tX3_turnOf 380 66 b_X3_turnOf_66 := by
  refine bplain (pc' := 67) rfl dX3_turnOf_66 rfl (ihN rfl) rfl ?_
  refine bjmp (tg := 83) (pc' := 70) rfl (by decide) (by decide) rfl dX3_turnOf_67 rfl (ihN rfl) rfl ?_
  exact trivial
theorem bf_X3_turnOf_70 : BOKt mt tX3_turnOf 380 70 b_X3_turnOf_70 := by
  refine bplain (pc' := 72) rfl dX3_turnOf_70 rfl (ihN rfl) rfl ?_
  refine bplain (pc' := 73) rfl dX3_turnOf_72 rfl (ihN rfl) rfl ?_
  refine bplain (pc' := 74) rfl dX3_turnOf_73 rfl (ihN rfl) rfl ?_
  refine bplain (pc' := 75) rfl dX3_turnOf_74 rfl (ihN rfl) rfl ?_
  refine bjmp (tg := 82) (pc' := 78) rfl (by decide) (by decide) rfl dX3_turnOf_75 rfl (ihN rfl) rfl ?_
  refine bplain (pc' := 79) rfl dX3_turnOf_78 rfl (ihN rfl) rfl ?_
  refine bjmp (tg := 83) (pc' := 82) rfl (by decide) (by decide) rfl dX3_turnOf_79 rfl (ihN rfl) rfl ?_
  exact trivial
theorem bf_X3_turnOf_82 : BOKt mt tX3_turnOf 380 82 b_X3_turnOf_82 := by
  refine bplain (pc' := 83) rfl dX3_turnOf_82 rfl (ihN rfl) rfl ?_
  exact bnop0 rfl (by decide)
theorem bf_X3_turnOf_83 : BOKt mt tX3_turnOf 380 83 b_X3_turnOf_83 := by
  refine bnop1 ?_
  refine bplain (pc' := 85) rfl dX3_turnOf_83 rfl (ihN rfl) rfl ?_
  refine bplain (pc' := 87) rfl dX3_turnOf_85 rfl (ihN rfl) rfl ?_
  refine bjmp (tg := 106) (pc' := 90) rfl (by decide) (by decide) rfl dX3_turnOf_87 rfl (ihN rfl) rfl ?_
  refine bplain (pc' := 91) rfl dX3_turnOf_90 rfl (ihN rfl) rfl ?_
  refine bthr (pc' := 94) rfl dX3_turnOf_91 rfl (lkf0 q2637 lf_195) (trivial) (ihN rfl) rfl ?_
  refine bplain (pc' := 96) rfl dX3_turnOf_94 rfl (ihN rfl) rfl ?_
  refine bplain (pc' := 97) rfl dX3_turnOf_96 rfl (ihN rfl) rfl ?_
  refine bplain (pc' := 98) rfl dX3_turnOf_97 rfl (ihN rfl) rfl ?_
  refine bjmp (tg := 106) (pc' := 101) rfl (by decide) (by decide) rfl dX3_turnOf_98 rfl (ihN rfl) rfl ?_
  refine bplain (pc' := 103) rfl dX3_turnOf_101 rfl (ihN rfl) rfl ?_
  refine bjmp (tg := 108) (pc' := 106) rfl (by decide) (by decide) rfl dX3_turnOf_103 rfl (ihN rfl) rfl ?_
  exact trivial
theorem bf_X3_turnOf_106 : BOKt mt tX3_turnOf 380 106 b_X3_turnOf_106 := by
  refine bnop1 ?_
  refine bplain (pc' := 108) rfl dX3_turnOf_106 rfl (ihN rfl) rfl ?_
  exact bnop0 rfl (by decide)
theorem bf_X3_turnOf_108 : BOKt mt tX3_turnOf 380 108 b_X3_turnOf_108 := by
  refine bnop1 ?_
  refine bplain (pc' := 110) rfl dX3_turnOf_108 rfl (ihN rfl) rfl ?_
  refine bplain (pc' := 113) rfl dX3_turnOf_110 rfl (ihN rfl) rfl ?_
  refine bjmp (tg := 18) (pc' := 116) rfl (by decide) (by decide) rfl dX3_turnOf_113 rfl (ihN rfl) rfl ?_
  exact trivial
theorem bf_X3_turnOf_116 : BOKt mt tX3_turnOf 380 116 b_X3_turnOf_116 := by
  refine bplain (pc' := 118) rfl dX3_turnOf_116 rfl (ihN rfl) rfl ?_
  refine bret (pc' := 119) rfl dX3_turnOf_118 rfl (Or.inl ⟨rfl, rfl⟩) (ihN rfl) rfl ?_
  exact trivial
theorem tf_X3_turnOf : ∀ x ∈ tb_X3_turnOf, BOK mt 380 x.1 x.2 := tb_c mt_X3_turnOf bf_X3_turnOf_0 (tb_c mt_X3_turnOf bf_X3_turnOf_18 (tb_c mt_X3_turnOf bf_X3_turnOf_37 (tb_c mt_X3_turnOf bf_X3_turnOf_46 (tb_c mt_X3_turnOf bf_X3_turnOf_66 (tb_c mt_X3_turnOf bf_X3_turnOf_70 (tb_c mt_X3_turnOf bf_X3_turnOf_82 (tb_c mt_X3_turnOf bf_X3_turnOf_83 (tb_c mt_X3_turnOf bf_X3_turnOf_106 (tb_c mt_X3_turnOf bf_X3_turnOf_108 (tb_c mt_X3_turnOf bf_X3_turnOf_116 (tb_n)))))))))))
theorem bf_X3_left_0 : BOKt mt tX3_left 381 0 b_X3_left_0 := by
  refine bplain (pc' := 1) rfl dX3_left_0 rfl (ihN rfl) rfl ?_
  refine bplain (pc' := 2) rfl dX3_left_1 rfl (ihN rfl) rfl ?_
  refine bplain (pc' := 3) rfl dX3_left_2 rfl (ihN rfl) rfl ?_
  refine bplain (pc' := 5) rfl dX3_left_3 rfl (ihN rfl) rfl ?_
  exact bnop0 rfl (by decide)
theorem bf_X3_left_5 : BOKt mt tX3_left 381 5 b_X3_left_5 := by
  refine bplain (pc' := 7) rfl dX3_left_5 rfl (ihN rfl) rfl ?_
  refine bplain (pc' := 8) rfl dX3_left_7 rfl (ihN rfl) rfl ?_
  refine bjmp (tg := 37) (pc' := 11) rfl (by decide) (by decide) rfl dX3_left_8 rfl (ihN rfl) rfl ?_
  refine bplain (pc' := 12) rfl dX3_left_11 rfl (ihN rfl) rfl ?_
  refine bplain (pc' := 13) rfl dX3_left_12 rfl (ihN rfl) rfl ?_
  refine bplain (pc' := 15) rfl dX3_left_13 rfl (ihN rfl) rfl ?_
  refine bplain (pc' := 16) rfl dX3_left_15 rfl (ihN rfl) rfl ?_
  refine bplain (pc' := 17) rfl dX3_left_16 rfl (ihN rfl) rfl ?_
  refine bcall (pc' := 20) rfl dX3_left_17 rfl (trivial) (lcv (n := 3) rfl (pvc (lfv mt_X3_turnOf ⟨by decide, by decide⟩ mok_X3_turnOf ⟨by decide, by decide⟩ ⟨q3148, ln_255, Or.inl ⟨q3146, Or.inl qs126⟩⟩) (trivial)) (Or.inl (by decide))) (ihN rfl) rfl ?_
  refine bplain (pc' := 21) rfl dX3_left_20 rfl (ihN rfl) rfl ?_
  refine bjmp (tg := 28) (pc' := 24) rfl (by decide) (by decide) rfl dX3_left_21 rfl (ihN rfl) rfl ?_
  refine bplain (pc' := 25) rfl dX3_left_24 rfl (ihN rfl) rfl ?_
  refine bjmp (tg := 29) (pc' := 28) rfl (by decide) (by decide) rfl dX3_left_25 rfl (ihN rfl) rfl ?_
  exact trivial
theorem bf_X3_left_28 : BOKt mt tX3_left 381 28 b_X3_left_28 := by
  refine bplain (pc' := 29) rfl dX3_left_28 rfl (ihN rfl) rfl ?_
  exact bnop0 rfl (by decide)
theorem bf_X3_left_29 : BOKt mt tX3_left 381 29 b_X3_left_29 := by
  refine bnop1 ?_
  refine bplain (pc' := 30) rfl dX3_left_29 rfl (ihN rfl) rfl ?_
  refine bplain (pc' := 31) rfl dX3_left_30 rfl (ihN rfl) rfl ?_
  refine bplain (pc' := 34) rfl dX3_left_31 rfl (ihN rfl) rfl ?_
  refine bjmp (tg := 5) (pc' := 37) rfl (by decide) (by decide) rfl dX3_left_34 rfl (ihN rfl) rfl ?_
  exact trivial
theorem bf_X3_left_37 : BOKt mt tX3_left 381 37 b_X3_left_37 := by
  refine bplain (pc' := 38) rfl dX3_left_37 rfl (ihN rfl) rfl ?_
  refine bret (pc' := 39) rfl dX3_left_38 rfl (Or.inl ⟨rfl, rfl⟩) (ihN rfl) rfl ?_
  exact trivial
theorem tf_X3_left : ∀ x ∈ tb_X3_left, BOK mt 381 x.1 x.2 := tb_c mt_X3_left bf_X3_left_0 (tb_c mt_X3_left bf_X3_left_5 (tb_c mt_X3_left bf_X3_left_28 (tb_c mt_X3_left bf_X3_left_29 (tb_c mt_X3_left bf_X3_left_37 (tb_n)))))
theorem bf_X3_copiesOut_0 : BOKt mt tX3_copiesOut 382 0 b_X3_copiesOut_0 := by
  refine bplain (pc' := 1) rfl dX3_copiesOut_0 rfl (ihN rfl) rfl ?_
  refine bplain (pc' := 2) rfl dX3_copiesOut_1 rfl (ihN rfl) rfl ?_
  exact bnop0 rfl (by decide)
theorem bf_X3_copiesOut_2 : BOKt mt tX3_copiesOut 382 2 b_X3_copiesOut_2 := by
  refine bnop1 ?_
  refine bplain (pc' := 3) rfl dX3_copiesOut_2 rfl (ihN rfl) rfl ?_
  refine bplain (pc' := 6) rfl dX3_copiesOut_3 rfl (ihN rfl) rfl ?_
  refine bjmp (tg := 71) (pc' := 9) rfl (by decide) (by decide) rfl dX3_copiesOut_6 rfl (ihN rfl) rfl ?_
  refine bplain (pc' := 10) rfl dX3_copiesOut_9 rfl (ihN rfl) rfl ?_
  refine bplain (pc' := 11) rfl dX3_copiesOut_10 rfl (ihN rfl) rfl ?_
  exact bnop0 rfl (by decide)
theorem bf_X3_copiesOut_11 : BOKt mt tX3_copiesOut 382 11 b_X3_copiesOut_11 := by
  refine bplain (pc' := 12) rfl dX3_copiesOut_11 rfl (ihN rfl) rfl ?_
  refine bplain (pc' := 13) rfl dX3_copiesOut_12 rfl (ihN rfl) rfl ?_
  refine bthr (pc' := 16) rfl dX3_copiesOut_13 rfl (lkf0 q2603 lf_274) (trivial) (ihN rfl) rfl ?_
  refine bjmp (tg := 65) (pc' := 19) rfl (by decide) (by decide) rfl dX3_copiesOut_16 rfl (ihN rfl) rfl ?_
  refine bplain (pc' := 20) rfl dX3_copiesOut_19 rfl (ihN rfl) rfl ?_
  refine bthr (pc' := 23) rfl dX3_copiesOut_20 rfl (lkf0 q2629 lf_189) (trivial) (ihN rfl) rfl ?_
  refine bplain (pc' := 26) rfl dX3_copiesOut_23 rfl (ihN rfl) rfl ?_
  refine bplain (pc' := 27) rfl dX3_copiesOut_26 rfl (ihN rfl) rfl ?_
  refine bplain (pc' := 28) rfl dX3_copiesOut_27 rfl (ihN rfl) rfl ?_
  refine bplain (pc' := 29) rfl dX3_copiesOut_28 rfl (ihN rfl) rfl ?_
  refine bplain (pc' := 30) rfl dX3_copiesOut_29 rfl (ihN rfl) rfl ?_
  refine bplain (pc' := 31) rfl dX3_copiesOut_30 rfl (ihN rfl) rfl ?_
  refine bjmp (tg := 59) (pc' := 34) rfl (by decide) (by decide) rfl dX3_copiesOut_31 rfl (ihN rfl) rfl ?_
  refine bplain (pc' := 35) rfl dX3_copiesOut_34 rfl (ihN rfl) rfl ?_
  refine bthr (pc' := 38) rfl dX3_copiesOut_35 rfl (lkf0 q2599 lf_149) (trivial) (ihN rfl) rfl ?_
  refine bplain (pc' := 39) rfl dX3_copiesOut_38 rfl (ihN rfl) rfl ?_
  refine bplain (pc' := 40) rfl dX3_copiesOut_39 rfl (ihN rfl) rfl ?_
  refine bthr (pc' := 43) rfl dX3_copiesOut_40 rfl (lkf0 q2628 lf_187) (trivial) (ihN rfl) rfl ?_
  refine bplain (pc' := 46) rfl dX3_copiesOut_43 rfl (ihN rfl) rfl ?_
  refine bplain (pc' := 47) rfl dX3_copiesOut_46 rfl (ihN rfl) rfl ?_
  refine bplain (pc' := 48) rfl dX3_copiesOut_47 rfl (ihN rfl) rfl ?_
  refine bplain (pc' := 49) rfl dX3_copiesOut_48 rfl (ihN rfl) rfl ?_
  refine bplain (pc' := 50) rfl dX3_copiesOut_49 rfl (ihN rfl) rfl ?_
  refine bplain (pc' := 51) rfl dX3_copiesOut_50 rfl (ihN rfl) rfl ?_
  refine bplain (pc' := 52) rfl dX3_copiesOut_51 rfl (ihN rfl) rfl ?_
  refine bplain (pc' := 53) rfl dX3_copiesOut_52 rfl (ihN rfl) rfl ?_
  refine bthr (pc' := 56) rfl dX3_copiesOut_53 rfl (lkf0 q2600 lf_151) (trivial) (ihN rfl) rfl ?_
  refine bplain (pc' := 57) rfl dX3_copiesOut_56 rfl (ihN rfl) rfl ?_
  refine bplain (pc' := 58) rfl dX3_copiesOut_57 rfl (ihN rfl) rfl ?_
  refine bplain (pc' := 59) rfl dX3_copiesOut_58 rfl (ihN rfl) rfl ?_
  exact bnop0 rfl (by decide)
theorem bf_X3_copiesOut_59 : BOKt mt tX3_copiesOut 382 59 b_X3_copiesOut_59 := by
  refine bplain (pc' := 62) rfl dX3_copiesOut_59 rfl (ihN rfl) rfl ?_
  refine bjmp (tg := 11) (pc' := 65) rfl (by decide) (by decide) rfl dX3_copiesOut_62 rfl (ihN rfl) rfl ?_
  exact trivial
theorem bf_X3_copiesOut_65 : BOKt mt tX3_copiesOut 382 65 b_X3_copiesOut_65 := by
  refine bplain (pc' := 68) rfl dX3_copiesOut_65 rfl (ihN rfl) rfl ?_
  refine bjmp (tg := 2) (pc' := 71) rfl (by decide) (by decide) rfl dX3_copiesOut_68 rfl (ihN rfl) rfl ?_
  exact trivial
theorem bf_X3_copiesOut_71 : BOKt mt tX3_copiesOut 382 71 b_X3_copiesOut_71 := by
  refine bret (pc' := 72) rfl dX3_copiesOut_71 rfl (rfl) (ihN rfl) rfl ?_
  exact trivial
theorem tf_X3_copiesOut : ∀ x ∈ tb_X3_copiesOut, BOK mt 382 x.1 x.2 := tb_c mt_X3_copiesOut bf_X3_copiesOut_0 (tb_c mt_X3_copiesOut bf_X3_copiesOut_2 (tb_c mt_X3_copiesOut bf_X3_copiesOut_11 (tb_c mt_X3_copiesOut bf_X3_copiesOut_59 (tb_c mt_X3_copiesOut bf_X3_copiesOut_65 (tb_c mt_X3_copiesOut bf_X3_copiesOut_71 (tb_n))))))
theorem bf_X3_mixes_0 : BOKt mt tX3_mixes 383 0 b_X3_mixes_0 := by
  refine bplain (pc' := 1) rfl dX3_mixes_0 rfl (ihN rfl) rfl ?_
  refine bplain (pc' := 3) rfl dX3_mixes_1 rfl (ihN rfl) rfl ?_
  exact bnop0 rfl (by decide)
theorem bf_X3_mixes_3 : BOKt mt tX3_mixes 383 3 b_X3_mixes_3 := by
  refine bnop1 ?_
  refine bplain (pc' := 5) rfl dX3_mixes_3 rfl (ihN rfl) rfl ?_
  refine bplain (pc' := 7) rfl dX3_mixes_5 rfl (ihN rfl) rfl ?_
  refine bjmp (tg := 29) (pc' := 10) rfl (by decide) (by decide) rfl dX3_mixes_7 rfl (ihN rfl) rfl ?_
  refine bplain (pc' := 11) rfl dX3_mixes_10 rfl (ihN rfl) rfl ?_
  refine bthr (pc' := 14) rfl dX3_mixes_11 rfl (lkf0 q2626 lf_183) (trivial) (ihN rfl) rfl ?_
  refine bplain (pc' := 16) rfl dX3_mixes_14 rfl (ihN rfl) rfl ?_
  refine bplain (pc' := 17) rfl dX3_mixes_16 rfl (ihN rfl) rfl ?_
  refine bplain (pc' := 19) rfl dX3_mixes_17 rfl (ihN rfl) rfl ?_
  refine bcall (pc' := 22) rfl dX3_mixes_19 rfl (trivial) (lcv (n := 1) rfl (pvc (lfv mt_X3_verdictOf ⟨by decide, by decide⟩ mok_X3_verdictOf ⟨by decide, by decide⟩ ⟨q3007, ln_225, Or.inl ⟨q3005, Or.inl qs99⟩⟩) (trivial)) (Or.inl (by decide))) (ihN rfl) rfl ?_
  refine bplain (pc' := 23) rfl dX3_mixes_22 rfl (ihN rfl) rfl ?_
  refine bplain (pc' := 26) rfl dX3_mixes_23 rfl (ihN rfl) rfl ?_
  refine bjmp (tg := 3) (pc' := 29) rfl (by decide) (by decide) rfl dX3_mixes_26 rfl (ihN rfl) rfl ?_
  exact trivial
theorem bf_X3_mixes_29 : BOKt mt tX3_mixes 383 29 b_X3_mixes_29 := by
  refine bplain (pc' := 30) rfl dX3_mixes_29 rfl (ihN rfl) rfl ?_
  refine bplain (pc' := 31) rfl dX3_mixes_30 rfl (ihN rfl) rfl ?_
  refine bobj (pc' := 34) rfl dX3_mixes_31 rfl (⟨lkf0 q2630 lf_549, lkp0 lp_560⟩) (ihN rfl) rfl ?_
  refine bplain (pc' := 35) rfl dX3_mixes_34 rfl (ihN rfl) rfl ?_
  refine bcall (pc' := 38) rfl dX3_mixes_35 rfl (trivial) (lcv (n := 0) rfl (pvc (lfv mt_X3_begins ⟨by decide, by decide⟩ mok_X3_begins ⟨by decide, by decide⟩ ⟨q3063, ln_0, Or.inl ⟨q3061, Or.inl qs109⟩⟩) (trivial)) (Or.inl (by decide))) (ihN rfl) rfl ?_
  refine bplain (pc' := 39) rfl dX3_mixes_38 rfl (ihN rfl) rfl ?_
  refine bplain (pc' := 41) rfl dX3_mixes_39 rfl (ihN rfl) rfl ?_
  refine bplain (pc' := 42) rfl dX3_mixes_41 rfl (ihN rfl) rfl ?_
  refine bplain (pc' := 43) rfl dX3_mixes_42 rfl (ihN rfl) rfl ?_
  refine bplain (pc' := 44) rfl dX3_mixes_43 rfl (ihN rfl) rfl ?_
  refine bcall (pc' := 47) rfl dX3_mixes_44 rfl (trivial) (lcv (n := 2) rfl (pvc (lfv mt_X3_left ⟨by decide, by decide⟩ mok_X3_left ⟨by decide, by decide⟩ ⟨q3144, ln_252, Or.inl ⟨q3142, Or.inl qs125⟩⟩) (trivial)) (Or.inl (by decide))) (ihN rfl) rfl ?_
  refine bplain (pc' := 49) rfl dX3_mixes_47 rfl (ihN rfl) rfl ?_
  exact bnop0 rfl (by decide)
theorem bf_X3_mixes_49 : BOKt mt tX3_mixes 383 49 b_X3_mixes_49 := by
  refine bnop1 ?_
  refine bplain (pc' := 51) rfl dX3_mixes_49 rfl (ihN rfl) rfl ?_
  refine bjmp (tg := 155) (pc' := 54) rfl (by decide) (by decide) rfl dX3_mixes_51 rfl (ihN rfl) rfl ?_
  refine bplain (pc' := 56) rfl dX3_mixes_54 rfl (ihN rfl) rfl ?_
  refine bplain (pc' := 58) rfl dX3_mixes_56 rfl (ihN rfl) rfl ?_
  refine bplain (pc' := 59) rfl dX3_mixes_58 rfl (ihN rfl) rfl ?_
  refine bplain (pc' := 61) rfl dX3_mixes_59 rfl (ihN rfl) rfl ?_
  refine bplain (pc' := 62) rfl dX3_mixes_61 rfl (ihN rfl) rfl ?_
  refine bplain (pc' := 64) rfl dX3_mixes_62 rfl (ihN rfl) rfl ?_
  refine bplain (pc' := 65) rfl dX3_mixes_64 rfl (ihN rfl) rfl ?_
  refine bplain (pc' := 67) rfl dX3_mixes_65 rfl (ihN rfl) rfl ?_
  exact bnop0 rfl (by decide)
theorem bf_X3_mixes_67 : BOKt mt tX3_mixes 383 67 b_X3_mixes_67 := by
  refine bnop1 ?_
  refine bplain (pc' := 69) rfl dX3_mixes_67 rfl (ihN rfl) rfl ?_
  refine bplain (pc' := 70) rfl dX3_mixes_69 rfl (ihN rfl) rfl ?_
  refine bjmp (tg := 125) (pc' := 73) rfl (by decide) (by decide) rfl dX3_mixes_70 rfl (ihN rfl) rfl ?_
  refine bplain (pc' := 74) rfl dX3_mixes_73 rfl (ihN rfl) rfl ?_
  refine bplain (pc' := 76) rfl dX3_mixes_74 rfl (ihN rfl) rfl ?_
  refine bplain (pc' := 77) rfl dX3_mixes_76 rfl (ihN rfl) rfl ?_
  refine bplain (pc' := 78) rfl dX3_mixes_77 rfl (ihN rfl) rfl ?_
  refine bcall (pc' := 81) rfl dX3_mixes_78 rfl (trivial) (lcv (n := 3) rfl (pvc (lfv mt_X3_turnOf ⟨by decide, by decide⟩ mok_X3_turnOf ⟨by decide, by decide⟩ ⟨q3148, ln_255, Or.inl ⟨q3146, Or.inl qs126⟩⟩) (trivial)) (Or.inl (by decide))) (ihN rfl) rfl ?_
  refine bplain (pc' := 83) rfl dX3_mixes_81 rfl (ihN rfl) rfl ?_
  refine bplain (pc' := 85) rfl dX3_mixes_83 rfl (ihN rfl) rfl ?_
  refine bplain (pc' := 86) rfl dX3_mixes_85 rfl (ihN rfl) rfl ?_
  refine bjmp (tg := 99) (pc' := 89) rfl (by decide) (by decide) rfl dX3_mixes_86 rfl (ihN rfl) rfl ?_
  refine bplain (pc' := 91) rfl dX3_mixes_89 rfl (ihN rfl) rfl ?_
  refine bjmp (tg := 99) (pc' := 94) rfl (by decide) (by decide) rfl dX3_mixes_91 rfl (ihN rfl) rfl ?_
  refine bplain (pc' := 96) rfl dX3_mixes_94 rfl (ihN rfl) rfl ?_
  refine bjmp (tg := 101) (pc' := 99) rfl (by decide) (by decide) rfl dX3_mixes_96 rfl (ihN rfl) rfl ?_
  exact trivial
theorem bf_X3_mixes_99 : BOKt mt tX3_mixes 383 99 b_X3_mixes_99 := by
  refine bnop1 ?_
  refine bplain (pc' := 101) rfl dX3_mixes_99 rfl (ihN rfl) rfl ?_
  exact bnop0 rfl (by decide)
theorem bf_X3_mixes_101 : BOKt mt tX3_mixes 383 101 b_X3_mixes_101 := by
  refine bnop1 ?_
  refine bplain (pc' := 103) rfl dX3_mixes_101 rfl (ihN rfl) rfl ?_
  refine bplain (pc' := 105) rfl dX3_mixes_103 rfl (ihN rfl) rfl ?_
  refine bplain (pc' := 107) rfl dX3_mixes_105 rfl (ihN rfl) rfl ?_
  refine bplain (pc' := 108) rfl dX3_mixes_107 rfl (ihN rfl) rfl ?_
  refine bjmp (tg := 115) (pc' := 111) rfl (by decide) (by decide) rfl dX3_mixes_108 rfl (ihN rfl) rfl ?_
  refine bplain (pc' := 112) rfl dX3_mixes_111 rfl (ihN rfl) rfl ?_
  refine bjmp (tg := 116) (pc' := 115) rfl (by decide) (by decide) rfl dX3_mixes_112 rfl (ihN rfl) rfl ?_
  exact trivial
theorem bf_X3_mixes_115 : BOKt mt tX3_mixes 383 115 b_X3_mixes_115 := by
  refine bplain (pc' := 116) rfl dX3_mixes_115 rfl (ihN rfl) rfl ?_
  exact bnop0 rfl (by decide)
theorem bf_X3_mixes_116 : BOKt mt tX3_mixes 383 116 b_X3_mixes_116 := by
  refine bnop1 ?_
  refine bplain (pc' := 117) rfl dX3_mixes_116 rfl (ihN rfl) rfl ?_
  refine bplain (pc' := 119) rfl dX3_mixes_117 rfl (ihN rfl) rfl ?_
  refine bplain (pc' := 122) rfl dX3_mixes_119 rfl (ihN rfl) rfl ?_
  refine bjmp (tg := 67) (pc' := 125) rfl (by decide) (by decide) rfl dX3_mixes_122 rfl (ihN rfl) rfl ?_
  exact trivial
theorem bf_X3_mixes_125 : BOKt mt tX3_mixes 383 125 b_X3_mixes_125 := by
  refine bplain (pc' := 126) rfl dX3_mixes_125 rfl (ihN rfl) rfl ?_
  refine bplain (pc' := 128) rfl dX3_mixes_126 rfl (ihN rfl) rfl ?_
  refine bcall (pc' := 131) rfl dX3_mixes_128 rfl (trivial) (lcv (n := 1) rfl (pvc (lfv mt_X3_steps ⟨by decide, by decide⟩ mok_X3_steps ⟨by decide, by decide⟩ ⟨q3071, ln_115, Or.inl ⟨q3069, Or.inl qs111⟩⟩) (trivial)) (Or.inl (by decide))) (ihN rfl) rfl ?_
  refine bplain (pc' := 133) rfl dX3_mixes_131 rfl (ihN rfl) rfl ?_
  refine bplain (pc' := 135) rfl dX3_mixes_133 rfl (ihN rfl) rfl ?_
  refine bplain (pc' := 136) rfl dX3_mixes_135 rfl (ihN rfl) rfl ?_
  refine bplain (pc' := 138) rfl dX3_mixes_136 rfl (ihN rfl) rfl ?_
  refine bplain (pc' := 139) rfl dX3_mixes_138 rfl (ihN rfl) rfl ?_
  refine bplain (pc' := 141) rfl dX3_mixes_139 rfl (ihN rfl) rfl ?_
  refine bplain (pc' := 142) rfl dX3_mixes_141 rfl (ihN rfl) rfl ?_
  refine bplain (pc' := 144) rfl dX3_mixes_142 rfl (ihN rfl) rfl ?_
  refine bplain (pc' := 145) rfl dX3_mixes_144 rfl (ihN rfl) rfl ?_
  refine bplain (pc' := 146) rfl dX3_mixes_145 rfl (ihN rfl) rfl ?_
  refine bplain (pc' := 147) rfl dX3_mixes_146 rfl (ihN rfl) rfl ?_
  refine bcall (pc' := 150) rfl dX3_mixes_147 rfl (trivial) (lcv (n := 2) rfl (pvc (lfv mt_X3_left ⟨by decide, by decide⟩ mok_X3_left ⟨by decide, by decide⟩ ⟨q3144, ln_252, Or.inl ⟨q3142, Or.inl qs125⟩⟩) (trivial)) (Or.inl (by decide))) (ihN rfl) rfl ?_
  refine bplain (pc' := 152) rfl dX3_mixes_150 rfl (ihN rfl) rfl ?_
  refine bjmp (tg := 49) (pc' := 155) rfl (by decide) (by decide) rfl dX3_mixes_152 rfl (ihN rfl) rfl ?_
  exact trivial
theorem bf_X3_mixes_155 : BOKt mt tX3_mixes 383 155 b_X3_mixes_155 := by
  refine bplain (pc' := 156) rfl dX3_mixes_155 rfl (ihN rfl) rfl ?_
  refine bcall (pc' := 159) rfl dX3_mixes_156 rfl (trivial) (lcv (n := 0) rfl (pvc (lfv mt_X3_copiesOut ⟨by decide, by decide⟩ mok_X3_copiesOut ⟨by decide, by decide⟩ ⟨q3152, ln_0, Or.inl ⟨q3150, Or.inl qs127⟩⟩) (trivial)) (Or.inl (by decide))) (ihN rfl) rfl ?_
  refine bplain (pc' := 160) rfl dX3_mixes_159 rfl (ihN rfl) rfl ?_
  refine bthr (pc' := 163) rfl dX3_mixes_160 rfl (lkf0 q2631 lf_543) (trivial) (ihN rfl) rfl ?_
  refine bret (pc' := 164) rfl dX3_mixes_163 rfl (Or.inl ⟨rfl, rfl⟩) (ihN rfl) rfl ?_
  exact trivial
theorem tf_X3_mixes : ∀ x ∈ tb_X3_mixes, BOK mt 383 x.1 x.2 := tb_c mt_X3_mixes bf_X3_mixes_0 (tb_c mt_X3_mixes bf_X3_mixes_3 (tb_c mt_X3_mixes bf_X3_mixes_29 (tb_c mt_X3_mixes bf_X3_mixes_49 (tb_c mt_X3_mixes bf_X3_mixes_67 (tb_c mt_X3_mixes bf_X3_mixes_99 (tb_c mt_X3_mixes bf_X3_mixes_101 (tb_c mt_X3_mixes bf_X3_mixes_115 (tb_c mt_X3_mixes bf_X3_mixes_116 (tb_c mt_X3_mixes bf_X3_mixes_125 (tb_c mt_X3_mixes bf_X3_mixes_155 (tb_n)))))))))))
theorem bf_X3_mixed_0 : BOKt mt tX3_mixed 384 0 b_X3_mixed_0 := by
  refine bplain (pc' := 1) rfl dX3_mixed_0 rfl (ihN rfl) rfl ?_
  refine bplain (pc' := 2) rfl dX3_mixed_1 rfl (ihN rfl) rfl ?_
  refine bplain (pc' := 3) rfl dX3_mixed_2 rfl (ihN rfl) rfl ?_
  refine bplain (pc' := 4) rfl dX3_mixed_3 rfl (ihN rfl) rfl ?_
  refine bplain (pc' := 6) rfl dX3_mixed_4 rfl (ihN rfl) rfl ?_
  refine bcall (pc' := 9) rfl dX3_mixed_6 rfl (trivial) (lcv (n := 4) rfl (pvc (lfv mt_X3_mayMix ⟨by decide, by decide⟩ mok_X3_mayMix ⟨by decide, by decide⟩ ⟨q3132, ln_453, Or.inl ⟨q3130, Or.inl qs122⟩⟩) (trivial)) (Or.inl (by decide))) (ihN rfl) rfl ?_
  refine bplain (pc' := 11) rfl dX3_mixed_9 rfl (ihN rfl) rfl ?_
  refine bplain (pc' := 13) rfl dX3_mixed_11 rfl (ihN rfl) rfl ?_
  refine bjmp (tg := 21) (pc' := 16) rfl (by decide) (by decide) rfl dX3_mixed_13 rfl (ihN rfl) rfl ?_
  refine bplain (pc' := 18) rfl dX3_mixed_16 rfl (ihN rfl) rfl ?_
  refine bjmp (tg := 28) (pc' := 21) rfl (by decide) (by decide) rfl dX3_mixed_18 rfl (ihN rfl) rfl ?_
  exact trivial
theorem bf_X3_mixed_21 : BOKt mt tX3_mixed 384 21 b_X3_mixed_21 := by
  refine bplain (pc' := 22) rfl dX3_mixed_21 rfl (ihN rfl) rfl ?_
  refine bplain (pc' := 23) rfl dX3_mixed_22 rfl (ihN rfl) rfl ?_
  refine bplain (pc' := 24) rfl dX3_mixed_23 rfl (ihN rfl) rfl ?_
  refine bplain (pc' := 25) rfl dX3_mixed_24 rfl (ihN rfl) rfl ?_
  refine bcall (pc' := 28) rfl dX3_mixed_25 rfl (trivial) (lcv (n := 3) rfl (pvc (lfv mt_X3_mixes ⟨by decide, by decide⟩ mok_X3_mixes ⟨by decide, by decide⟩ ⟨q3140, ln_255, Or.inl ⟨q3138, Or.inl qs124⟩⟩) (trivial)) (Or.inl (by decide))) (ihN rfl) rfl ?_
  exact bnop0 rfl (by decide)
theorem bf_X3_mixed_28 : BOKt mt tX3_mixed 384 28 b_X3_mixed_28 := by
  refine bnop1 ?_
  refine bret (pc' := 29) rfl dX3_mixed_28 rfl (Or.inl ⟨rfl, rfl⟩) (ihN rfl) rfl ?_
  exact trivial
theorem tf_X3_mixed : ∀ x ∈ tb_X3_mixed, BOK mt 384 x.1 x.2 := tb_c mt_X3_mixed bf_X3_mixed_0 (tb_c mt_X3_mixed bf_X3_mixed_21 (tb_c mt_X3_mixed bf_X3_mixed_28 (tb_n)))
theorem bf_X0_keeps_0 : BOKt mt tX0_keeps 385 0 b_X0_keeps_0 := by
  refine bplain (pc' := 1) rfl dX0_keeps_0 rfl (ihN rfl) rfl ?_
  refine bplain (pc' := 2) rfl dX0_keeps_1 rfl (ihN rfl) rfl ?_
  exact bnop0 rfl (by decide)
theorem bf_X0_keeps_2 : BOKt mt tX0_keeps 385 2 b_X0_keeps_2 := by
  refine bnop1 ?_
  refine bplain (pc' := 3) rfl dX0_keeps_2 rfl (ihN rfl) rfl ?_
  refine bplain (pc' := 5) rfl dX0_keeps_3 rfl (ihN rfl) rfl ?_
  refine bjmp (tg := 57) (pc' := 8) rfl (by decide) (by decide) rfl dX0_keeps_5 rfl (ihN rfl) rfl ?_
  refine bplain (pc' := 9) rfl dX0_keeps_8 rfl (ihN rfl) rfl ?_
  refine bplain (pc' := 10) rfl dX0_keeps_9 rfl (ihN rfl) rfl ?_
  refine bcall (pc' := 13) rfl dX0_keeps_10 rfl (trivial) (lcv (n := 1) rfl (pvc (lfv mt_X0_numbers ⟨by decide, by decide⟩ mok_X0_numbers ⟨by decide, by decide⟩ ⟨q1855, ln_376, Or.inl ⟨q2233, Or.inl qs17⟩⟩) (trivial)) (Or.inl (by decide))) (ihN rfl) rfl ?_
  refine bplain (pc' := 14) rfl dX0_keeps_13 rfl (ihN rfl) rfl ?_
  refine bplain (pc' := 15) rfl dX0_keeps_14 rfl (ihN rfl) rfl ?_
  refine bplain (pc' := 17) rfl dX0_keeps_15 rfl (ihN rfl) rfl ?_
  exact bnop0 rfl (by decide)
theorem bf_X0_keeps_17 : BOKt mt tX0_keeps 385 17 b_X0_keeps_17 := by
  refine bplain (pc' := 18) rfl dX0_keeps_17 rfl (ihN rfl) rfl ?_
  refine bjmp (tg := 51) (pc' := 21) rfl (by decide) (by decide) rfl dX0_keeps_18 rfl (ihN rfl) rfl ?_
  refine bplain (pc' := 23) rfl dX0_keeps_21 rfl (ihN rfl) rfl ?_
  refine bplain (pc' := 24) rfl dX0_keeps_23 rfl (ihN rfl) rfl ?_
  refine bthr (pc' := 27) rfl dX0_keeps_24 rfl (lkf1 (host := "StrideTurns") (by decide) q1231 lf_216) (trivial) (ihN rfl) rfl ?_
  refine bjmp (tg := 51) (pc' := 30) rfl (by decide) (by decide) rfl dX0_keeps_27 rfl (ihN rfl) rfl ?_
  refine bplain (pc' := 31) rfl dX0_keeps_30 rfl (ihN rfl) rfl ?_
  refine bplain (pc' := 33) rfl dX0_keeps_31 rfl (ihN rfl) rfl ?_
  refine bplain (pc' := 34) rfl dX0_keeps_33 rfl (ihN rfl) rfl ?_
  refine bplain (pc' := 35) rfl dX0_keeps_34 rfl (ihN rfl) rfl ?_
  refine bplain (pc' := 37) rfl dX0_keeps_35 rfl (ihN rfl) rfl ?_
  refine bplain (pc' := 38) rfl dX0_keeps_37 rfl (ihN rfl) rfl ?_
  refine bplain (pc' := 39) rfl dX0_keeps_38 rfl (ihN rfl) rfl ?_
  refine bplain (pc' := 41) rfl dX0_keeps_39 rfl (ihN rfl) rfl ?_
  refine bcall (pc' := 44) rfl dX0_keeps_41 rfl (trivial) (lcv (n := 1) rfl (pvc (lfv mt_X4_at ⟨by decide, by decide⟩ mok_X4_at ⟨by decide, by decide⟩ ⟨q2401, ln_468, Or.inl ⟨q2515, Or.inl q2402⟩⟩) (trivial)) (Or.inl (by decide))) (ihN rfl) rfl ?_
  refine bplain (pc' := 45) rfl dX0_keeps_44 rfl (ihN rfl) rfl ?_
  refine bplain (pc' := 48) rfl dX0_keeps_45 rfl (ihN rfl) rfl ?_
  refine bjmp (tg := 17) (pc' := 51) rfl (by decide) (by decide) rfl dX0_keeps_48 rfl (ihN rfl) rfl ?_
  exact trivial
theorem bf_X0_keeps_51 : BOKt mt tX0_keeps 385 51 b_X0_keeps_51 := by
  refine bnop1 ?_
  refine bplain (pc' := 54) rfl dX0_keeps_51 rfl (ihN rfl) rfl ?_
  refine bjmp (tg := 2) (pc' := 57) rfl (by decide) (by decide) rfl dX0_keeps_54 rfl (ihN rfl) rfl ?_
  exact trivial
theorem bf_X0_keeps_57 : BOKt mt tX0_keeps 385 57 b_X0_keeps_57 := by
  refine bret (pc' := 58) rfl dX0_keeps_57 rfl (rfl) (ihN rfl) rfl ?_
  exact trivial
theorem tf_X0_keeps : ∀ x ∈ tb_X0_keeps, BOK mt 385 x.1 x.2 := tb_c mt_X0_keeps bf_X0_keeps_0 (tb_c mt_X0_keeps bf_X0_keeps_2 (tb_c mt_X0_keeps bf_X0_keeps_17 (tb_c mt_X0_keeps bf_X0_keeps_51 (tb_c mt_X0_keeps bf_X0_keeps_57 (tb_n)))))
theorem bf_X0_keepsWriters_0 : BOKt mt tX0_keepsWriters 386 0 b_X0_keepsWriters_0 := by
  refine bplain (pc' := 1) rfl dX0_keepsWriters_0 rfl (ihN rfl) rfl ?_
  refine bplain (pc' := 2) rfl dX0_keepsWriters_1 rfl (ihN rfl) rfl ?_
  exact bnop0 rfl (by decide)
theorem bf_X0_keepsWriters_2 : BOKt mt tX0_keepsWriters 386 2 b_X0_keepsWriters_2 := by
  refine bnop1 ?_
  refine bplain (pc' := 3) rfl dX0_keepsWriters_2 rfl (ihN rfl) rfl ?_
  refine bplain (pc' := 5) rfl dX0_keepsWriters_3 rfl (ihN rfl) rfl ?_
  refine bjmp (tg := 58) (pc' := 8) rfl (by decide) (by decide) rfl dX0_keepsWriters_5 rfl (ihN rfl) rfl ?_
  refine bplain (pc' := 9) rfl dX0_keepsWriters_8 rfl (ihN rfl) rfl ?_
  refine bthr (pc' := 12) rfl dX0_keepsWriters_9 rfl (lkf0 q1112 lf_113) (trivial) (ihN rfl) rfl ?_
  refine bplain (pc' := 13) rfl dX0_keepsWriters_12 rfl (ihN rfl) rfl ?_
  refine bplain (pc' := 14) rfl dX0_keepsWriters_13 rfl (ihN rfl) rfl ?_
  refine bplain (pc' := 15) rfl dX0_keepsWriters_14 rfl (ihN rfl) rfl ?_
  refine bplain (pc' := 16) rfl dX0_keepsWriters_15 rfl (ihN rfl) rfl ?_
  refine bplain (pc' := 17) rfl dX0_keepsWriters_16 rfl (ihN rfl) rfl ?_
  exact bnop0 rfl (by decide)
theorem bf_X0_keepsWriters_17 : BOKt mt tX0_keepsWriters 386 17 b_X0_keepsWriters_17 := by
  refine bplain (pc' := 18) rfl dX0_keepsWriters_17 rfl (ihN rfl) rfl ?_
  refine bjmp (tg := 52) (pc' := 21) rfl (by decide) (by decide) rfl dX0_keepsWriters_18 rfl (ihN rfl) rfl ?_
  refine bplain (pc' := 22) rfl dX0_keepsWriters_21 rfl (ihN rfl) rfl ?_
  refine bplain (pc' := 23) rfl dX0_keepsWriters_22 rfl (ihN rfl) rfl ?_
  refine bthr (pc' := 26) rfl dX0_keepsWriters_23 rfl (lkf1 (host := "StrideTurns") (by decide) q1231 lf_216) (trivial) (ihN rfl) rfl ?_
  refine bjmp (tg := 52) (pc' := 29) rfl (by decide) (by decide) rfl dX0_keepsWriters_26 rfl (ihN rfl) rfl ?_
  refine bplain (pc' := 30) rfl dX0_keepsWriters_29 rfl (ihN rfl) rfl ?_
  refine bthr (pc' := 33) rfl dX0_keepsWriters_30 rfl (lkf0 q1137 lf_141) (trivial) (ihN rfl) rfl ?_
  refine bplain (pc' := 35) rfl dX0_keepsWriters_33 rfl (ihN rfl) rfl ?_
  refine bplain (pc' := 36) rfl dX0_keepsWriters_35 rfl (ihN rfl) rfl ?_
  refine bplain (pc' := 37) rfl dX0_keepsWriters_36 rfl (ihN rfl) rfl ?_
  refine bplain (pc' := 38) rfl dX0_keepsWriters_37 rfl (ihN rfl) rfl ?_
  refine bplain (pc' := 39) rfl dX0_keepsWriters_38 rfl (ihN rfl) rfl ?_
  refine bplain (pc' := 40) rfl dX0_keepsWriters_39 rfl (ihN rfl) rfl ?_
  refine bthr (pc' := 43) rfl dX0_keepsWriters_40 rfl (lkf1 (host := "StrideTurns") (by decide) q1234 lf_218) (trivial) (ihN rfl) rfl ?_
  refine bplain (pc' := 44) rfl dX0_keepsWriters_43 rfl (ihN rfl) rfl ?_
  refine bplain (pc' := 45) rfl dX0_keepsWriters_44 rfl (ihN rfl) rfl ?_
  refine bplain (pc' := 46) rfl dX0_keepsWriters_45 rfl (ihN rfl) rfl ?_
  refine bplain (pc' := 49) rfl dX0_keepsWriters_46 rfl (ihN rfl) rfl ?_
  refine bjmp (tg := 17) (pc' := 52) rfl (by decide) (by decide) rfl dX0_keepsWriters_49 rfl (ihN rfl) rfl ?_
  exact trivial
theorem bf_X0_keepsWriters_52 : BOKt mt tX0_keepsWriters 386 52 b_X0_keepsWriters_52 := by
  refine bnop1 ?_
  refine bplain (pc' := 55) rfl dX0_keepsWriters_52 rfl (ihN rfl) rfl ?_
  refine bjmp (tg := 2) (pc' := 58) rfl (by decide) (by decide) rfl dX0_keepsWriters_55 rfl (ihN rfl) rfl ?_
  exact trivial
theorem bf_X0_keepsWriters_58 : BOKt mt tX0_keepsWriters 386 58 b_X0_keepsWriters_58 := by
  refine bret (pc' := 59) rfl dX0_keepsWriters_58 rfl (rfl) (ihN rfl) rfl ?_
  exact trivial
theorem tf_X0_keepsWriters : ∀ x ∈ tb_X0_keepsWriters, BOK mt 386 x.1 x.2 := tb_c mt_X0_keepsWriters bf_X0_keepsWriters_0 (tb_c mt_X0_keepsWriters bf_X0_keepsWriters_2 (tb_c mt_X0_keepsWriters bf_X0_keepsWriters_17 (tb_c mt_X0_keepsWriters bf_X0_keepsWriters_52 (tb_c mt_X0_keepsWriters bf_X0_keepsWriters_58 (tb_n)))))
theorem bf_X0_takesBack_0 : BOKt mt tX0_takesBack 387 0 b_X0_takesBack_0 := by
  refine bplain (pc' := 1) rfl dX0_takesBack_0 rfl (ihN rfl) rfl ?_
  refine bplain (pc' := 2) rfl dX0_takesBack_1 rfl (ihN rfl) rfl ?_
  exact bnop0 rfl (by decide)
theorem bf_X0_takesBack_2 : BOKt mt tX0_takesBack 387 2 b_X0_takesBack_2 := by
  refine bnop1 ?_
  refine bplain (pc' := 3) rfl dX0_takesBack_2 rfl (ihN rfl) rfl ?_
  refine bplain (pc' := 5) rfl dX0_takesBack_3 rfl (ihN rfl) rfl ?_
  refine bjmp (tg := 56) (pc' := 8) rfl (by decide) (by decide) rfl dX0_takesBack_5 rfl (ihN rfl) rfl ?_
  refine bplain (pc' := 9) rfl dX0_takesBack_8 rfl (ihN rfl) rfl ?_
  refine bplain (pc' := 10) rfl dX0_takesBack_9 rfl (ihN rfl) rfl ?_
  refine bcall (pc' := 13) rfl dX0_takesBack_10 rfl (trivial) (lcv (n := 1) rfl (pvc (lfv mt_X0_numbers ⟨by decide, by decide⟩ mok_X0_numbers ⟨by decide, by decide⟩ ⟨q1855, ln_376, Or.inl ⟨q2233, Or.inl qs17⟩⟩) (trivial)) (Or.inl (by decide))) (ihN rfl) rfl ?_
  refine bplain (pc' := 14) rfl dX0_takesBack_13 rfl (ihN rfl) rfl ?_
  refine bplain (pc' := 15) rfl dX0_takesBack_14 rfl (ihN rfl) rfl ?_
  refine bplain (pc' := 16) rfl dX0_takesBack_15 rfl (ihN rfl) rfl ?_
  exact bnop0 rfl (by decide)
theorem bf_X0_takesBack_16 : BOKt mt tX0_takesBack 387 16 b_X0_takesBack_16 := by
  refine bplain (pc' := 17) rfl dX0_takesBack_16 rfl (ihN rfl) rfl ?_
  refine bjmp (tg := 50) (pc' := 20) rfl (by decide) (by decide) rfl dX0_takesBack_17 rfl (ihN rfl) rfl ?_
  refine bplain (pc' := 21) rfl dX0_takesBack_20 rfl (ihN rfl) rfl ?_
  refine bplain (pc' := 22) rfl dX0_takesBack_21 rfl (ihN rfl) rfl ?_
  refine bthr (pc' := 25) rfl dX0_takesBack_22 rfl (lkf1 (host := "StrideTurns") (by decide) q1231 lf_216) (trivial) (ihN rfl) rfl ?_
  refine bjmp (tg := 50) (pc' := 28) rfl (by decide) (by decide) rfl dX0_takesBack_25 rfl (ihN rfl) rfl ?_
  refine bplain (pc' := 29) rfl dX0_takesBack_28 rfl (ihN rfl) rfl ?_
  refine bplain (pc' := 30) rfl dX0_takesBack_29 rfl (ihN rfl) rfl ?_
  refine bplain (pc' := 31) rfl dX0_takesBack_30 rfl (ihN rfl) rfl ?_
  refine bthr (pc' := 34) rfl dX0_takesBack_31 rfl (lkf0 q1136 lf_139) (trivial) (ihN rfl) rfl ?_
  refine bplain (pc' := 36) rfl dX0_takesBack_34 rfl (ihN rfl) rfl ?_
  refine bplain (pc' := 37) rfl dX0_takesBack_36 rfl (ihN rfl) rfl ?_
  refine bplain (pc' := 38) rfl dX0_takesBack_37 rfl (ihN rfl) rfl ?_
  refine bplain (pc' := 39) rfl dX0_takesBack_38 rfl (ihN rfl) rfl ?_
  refine bplain (pc' := 40) rfl dX0_takesBack_39 rfl (ihN rfl) rfl ?_
  refine bplain (pc' := 41) rfl dX0_takesBack_40 rfl (ihN rfl) rfl ?_
  refine bcall (pc' := 44) rfl dX0_takesBack_41 rfl (trivial) (lcv (n := 2) rfl (pvc (lfv mt_X4_becomes ⟨by decide, by decide⟩ mok_X4_becomes ⟨by decide, by decide⟩ ⟨q2452, ln_533, Or.inl ⟨q2518, Or.inl q2453⟩⟩) (trivial)) (Or.inl (by decide))) (ihN rfl) rfl ?_
  refine bplain (pc' := 47) rfl dX0_takesBack_44 rfl (ihN rfl) rfl ?_
  refine bjmp (tg := 16) (pc' := 50) rfl (by decide) (by decide) rfl dX0_takesBack_47 rfl (ihN rfl) rfl ?_
  exact trivial
theorem bf_X0_takesBack_50 : BOKt mt tX0_takesBack 387 50 b_X0_takesBack_50 := by
  refine bnop1 ?_
  refine bplain (pc' := 53) rfl dX0_takesBack_50 rfl (ihN rfl) rfl ?_
  refine bjmp (tg := 2) (pc' := 56) rfl (by decide) (by decide) rfl dX0_takesBack_53 rfl (ihN rfl) rfl ?_
  exact trivial
theorem bf_X0_takesBack_56 : BOKt mt tX0_takesBack 387 56 b_X0_takesBack_56 := by
  refine bret (pc' := 57) rfl dX0_takesBack_56 rfl (rfl) (ihN rfl) rfl ?_
  exact trivial
theorem tf_X0_takesBack : ∀ x ∈ tb_X0_takesBack, BOK mt 387 x.1 x.2 := tb_c mt_X0_takesBack bf_X0_takesBack_0 (tb_c mt_X0_takesBack bf_X0_takesBack_2 (tb_c mt_X0_takesBack bf_X0_takesBack_16 (tb_c mt_X0_takesBack bf_X0_takesBack_50 (tb_c mt_X0_takesBack bf_X0_takesBack_56 (tb_n)))))
theorem bf_X0_isFound_0 : BOKt mt tX0_isFound 388 0 b_X0_isFound_0 := by
  refine bplain (pc' := 1) rfl dX0_isFound_0 rfl (ihN rfl) rfl ?_
  refine bplain (pc' := 2) rfl dX0_isFound_1 rfl (ihN rfl) rfl ?_
  exact bnop0 rfl (by decide)
theorem bf_X0_isFound_2 : BOKt mt tX0_isFound 388 2 b_X0_isFound_2 := by
  refine bnop1 ?_
  refine bplain (pc' := 3) rfl dX0_isFound_2 rfl (ihN rfl) rfl ?_
  refine bplain (pc' := 5) rfl dX0_isFound_3 rfl (ihN rfl) rfl ?_
  refine bjmp (tg := 62) (pc' := 8) rfl (by decide) (by decide) rfl dX0_isFound_5 rfl (ihN rfl) rfl ?_
  refine bplain (pc' := 9) rfl dX0_isFound_8 rfl (ihN rfl) rfl ?_
  refine bplain (pc' := 10) rfl dX0_isFound_9 rfl (ihN rfl) rfl ?_
  refine bcall (pc' := 13) rfl dX0_isFound_10 rfl (trivial) (lcv (n := 1) rfl (pvc (lfv mt_X0_numbers ⟨by decide, by decide⟩ mok_X0_numbers ⟨by decide, by decide⟩ ⟨q1855, ln_376, Or.inl ⟨q2233, Or.inl qs17⟩⟩) (trivial)) (Or.inl (by decide))) (ihN rfl) rfl ?_
  refine bplain (pc' := 14) rfl dX0_isFound_13 rfl (ihN rfl) rfl ?_
  refine bplain (pc' := 15) rfl dX0_isFound_14 rfl (ihN rfl) rfl ?_
  refine bplain (pc' := 16) rfl dX0_isFound_15 rfl (ihN rfl) rfl ?_
  exact bnop0 rfl (by decide)
theorem bf_X0_isFound_16 : BOKt mt tX0_isFound 388 16 b_X0_isFound_16 := by
  refine bplain (pc' := 17) rfl dX0_isFound_16 rfl (ihN rfl) rfl ?_
  refine bjmp (tg := 56) (pc' := 20) rfl (by decide) (by decide) rfl dX0_isFound_17 rfl (ihN rfl) rfl ?_
  refine bplain (pc' := 21) rfl dX0_isFound_20 rfl (ihN rfl) rfl ?_
  refine bplain (pc' := 22) rfl dX0_isFound_21 rfl (ihN rfl) rfl ?_
  refine bthr (pc' := 25) rfl dX0_isFound_22 rfl (lkf1 (host := "StrideTurns") (by decide) q1231 lf_216) (trivial) (ihN rfl) rfl ?_
  refine bjmp (tg := 56) (pc' := 28) rfl (by decide) (by decide) rfl dX0_isFound_25 rfl (ihN rfl) rfl ?_
  refine bplain (pc' := 29) rfl dX0_isFound_28 rfl (ihN rfl) rfl ?_
  refine bthr (pc' := 32) rfl dX0_isFound_29 rfl (lkf0 q1138 lf_143) (trivial) (ihN rfl) rfl ?_
  refine bplain (pc' := 34) rfl dX0_isFound_32 rfl (ihN rfl) rfl ?_
  refine bplain (pc' := 35) rfl dX0_isFound_34 rfl (ihN rfl) rfl ?_
  refine bplain (pc' := 36) rfl dX0_isFound_35 rfl (ihN rfl) rfl ?_
  refine bplain (pc' := 37) rfl dX0_isFound_36 rfl (ihN rfl) rfl ?_
  refine bplain (pc' := 38) rfl dX0_isFound_37 rfl (ihN rfl) rfl ?_
  refine bplain (pc' := 39) rfl dX0_isFound_38 rfl (ihN rfl) rfl ?_
  refine bplain (pc' := 40) rfl dX0_isFound_39 rfl (ihN rfl) rfl ?_
  refine bplain (pc' := 41) rfl dX0_isFound_40 rfl (ihN rfl) rfl ?_
  refine bcall (pc' := 44) rfl dX0_isFound_41 rfl (trivial) (lcv (n := 1) rfl (pvc (lfv mt_X4_at ⟨by decide, by decide⟩ mok_X4_at ⟨by decide, by decide⟩ ⟨q2401, ln_468, Or.inl ⟨q2515, Or.inl q2402⟩⟩) (trivial)) (Or.inl (by decide))) (ihN rfl) rfl ?_
  refine bplain (pc' := 45) rfl dX0_isFound_44 rfl (ihN rfl) rfl ?_
  refine bjmp (tg := 50) (pc' := 48) rfl (by decide) (by decide) rfl dX0_isFound_45 rfl (ihN rfl) rfl ?_
  refine bplain (pc' := 49) rfl dX0_isFound_48 rfl (ihN rfl) rfl ?_
  refine bret (pc' := 50) rfl dX0_isFound_49 rfl (Or.inr ⟨rfl, rfl⟩) (ihN rfl) rfl ?_
  exact trivial
theorem bf_X0_isFound_50 : BOKt mt tX0_isFound 388 50 b_X0_isFound_50 := by
  refine bplain (pc' := 53) rfl dX0_isFound_50 rfl (ihN rfl) rfl ?_
  refine bjmp (tg := 16) (pc' := 56) rfl (by decide) (by decide) rfl dX0_isFound_53 rfl (ihN rfl) rfl ?_
  exact trivial
theorem bf_X0_isFound_56 : BOKt mt tX0_isFound 388 56 b_X0_isFound_56 := by
  refine bnop1 ?_
  refine bplain (pc' := 59) rfl dX0_isFound_56 rfl (ihN rfl) rfl ?_
  refine bjmp (tg := 2) (pc' := 62) rfl (by decide) (by decide) rfl dX0_isFound_59 rfl (ihN rfl) rfl ?_
  exact trivial
theorem bf_X0_isFound_62 : BOKt mt tX0_isFound 388 62 b_X0_isFound_62 := by
  refine bplain (pc' := 63) rfl dX0_isFound_62 rfl (ihN rfl) rfl ?_
  refine bret (pc' := 64) rfl dX0_isFound_63 rfl (Or.inr ⟨rfl, rfl⟩) (ihN rfl) rfl ?_
  exact trivial
theorem tf_X0_isFound : ∀ x ∈ tb_X0_isFound, BOK mt 388 x.1 x.2 := tb_c mt_X0_isFound bf_X0_isFound_0 (tb_c mt_X0_isFound bf_X0_isFound_2 (tb_c mt_X0_isFound bf_X0_isFound_16 (tb_c mt_X0_isFound bf_X0_isFound_50 (tb_c mt_X0_isFound bf_X0_isFound_56 (tb_c mt_X0_isFound bf_X0_isFound_62 (tb_n))))))
theorem bf_X0_sameBy_0 : BOKt mt tX0_sameBy 389 0 b_X0_sameBy_0 := by
  refine bplain (pc' := 1) rfl dX0_sameBy_0 rfl (ihP (fun h => nomatch h) rfl) rfl ?_
  refine bplain (pc' := 2) rfl dX0_sameBy_1 rfl (ihP (fun h => nomatch h) rfl) rfl ?_
  refine bthr (pc' := 5) rfl dX0_sameBy_2 rfl (lkf0 q1136 lf_139) (trivial) (ihP (fun h => nomatch h) rfl) rfl ?_
  refine bcall (pc' := 8) rfl dX0_sameBy_5 rfl (trivial) (lcv (n := 1) rfl (pvc (lfv mt_X0_keeps ⟨by decide, by decide⟩ mok_X0_keeps ⟨by decide, by decide⟩ ⟨q2529, ln_571, Or.inl ⟨q2527, Or.inl qs53⟩⟩) (trivial)) (Or.inl (by decide))) (ihH (fun h => nomatch h) (hokN (by decide +kernel))) rfl ?_
  refine bplain (pc' := 9) rfl dX0_sameBy_8 rfl (ihP (fun h => nomatch h) rfl) rfl ?_
  refine bcall (pc' := 12) rfl dX0_sameBy_9 rfl (trivial) (lcv (n := 0) rfl (pvc (lfv mt_X0_keepsWriters ⟨by decide, by decide⟩ mok_X0_keepsWriters ⟨by decide, by decide⟩ ⟨q2533, ln_0, Or.inl ⟨q2531, Or.inl qs54⟩⟩) (trivial)) (Or.inl (by decide))) (ihH (fun h => nomatch h) (hokN (by decide +kernel))) rfl ?_
  refine bplain (pc' := 13) rfl dX0_sameBy_12 rfl (ihP (fun h => nomatch h) rfl) rfl ?_
  refine bcall (pc' := 16) rfl dX0_sameBy_13 rfl (trivial) (lcv (n := 0) rfl (pvc (lfv mt_X0_runs ⟨by decide, by decide⟩ mok_X0_runs ⟨by decide, by decide⟩ ⟨q2347, ln_0, Or.inl ⟨q2345, Or.inl qs37⟩⟩) (trivial)) (Or.inl (by decide))) (ihH (fun h => nomatch h) (Or.inl rfl)) rfl ?_
  refine bplain (pc' := 17) rfl dX0_sameBy_16 rfl (ihP (fun h => nomatch h) rfl) rfl ?_
  refine bplain (pc' := 18) rfl dX0_sameBy_17 rfl (ihP (fun h => nomatch h) rfl) rfl ?_
  refine bthr (pc' := 21) rfl dX0_sameBy_18 rfl (lkf0 q1138 lf_143) (trivial) (ihP (fun h => nomatch h) rfl) rfl ?_
  refine bcall (pc' := 24) rfl dX0_sameBy_21 rfl (trivial) (lcv (n := 1) rfl (pvc (lfv mt_X0_keeps ⟨by decide, by decide⟩ mok_X0_keeps ⟨by decide, by decide⟩ ⟨q2529, ln_571, Or.inl ⟨q2527, Or.inl qs53⟩⟩) (trivial)) (Or.inl (by decide))) (ihH (fun h => nomatch h) (Or.inl rfl)) rfl ?_
  refine bplain (pc' := 25) rfl dX0_sameBy_24 rfl (ihP (fun h => nomatch h) rfl) rfl ?_
  refine bthr (pc' := 28) rfl dX0_sameBy_25 rfl (lkf0 q1126 lf_128) (trivial) (ihP (fun h => nomatch h) rfl) rfl ?_
  refine bplain (pc' := 29) rfl dX0_sameBy_28 rfl (ihP (fun h => nomatch h) rfl) rfl ?_
  refine bplain (pc' := 30) rfl dX0_sameBy_29 rfl (ihP (fun h => nomatch h) rfl) rfl ?_
  refine bplain (pc' := 32) rfl dX0_sameBy_30 rfl (ihP (fun h => nomatch h) rfl) rfl ?_
  refine bplain (pc' := 33) rfl dX0_sameBy_32 rfl (ihP (fun h => nomatch h) rfl) rfl ?_
  refine bthr (pc' := 36) rfl dX0_sameBy_33 rfl (lkf0 q1126 lf_128) (trivial) (ihP (fun h => nomatch h) rfl) rfl ?_
  refine bplain (pc' := 37) rfl dX0_sameBy_36 rfl (ihP (fun h => nomatch h) rfl) rfl ?_
  refine bplain (pc' := 38) rfl dX0_sameBy_37 rfl (ihP (fun h => nomatch h) rfl) rfl ?_
  refine bplain (pc' := 40) rfl dX0_sameBy_38 rfl (ihP (fun h => nomatch h) rfl) rfl ?_
  refine bplain (pc' := 41) rfl dX0_sameBy_40 rfl (ihP (fun h => nomatch h) rfl) rfl ?_
  refine bthr (pc' := 44) rfl dX0_sameBy_41 rfl (lkf0 q1126 lf_128) (trivial) (ihP (fun h => nomatch h) rfl) rfl ?_
  refine bplain (pc' := 45) rfl dX0_sameBy_44 rfl (ihP (fun h => nomatch h) rfl) rfl ?_
  refine bplain (pc' := 46) rfl dX0_sameBy_45 rfl (ihP (fun h => nomatch h) rfl) rfl ?_
  refine bplain (pc' := 48) rfl dX0_sameBy_46 rfl (ihP (fun h => nomatch h) rfl) rfl ?_
  refine bplain (pc' := 49) rfl dX0_sameBy_48 rfl (ihP (fun h => nomatch h) rfl) rfl ?_
  refine bthr (pc' := 52) rfl dX0_sameBy_49 rfl (lkf0 q1131 lf_465) (trivial) (ihP (fun h => nomatch h) rfl) rfl ?_
  refine bplain (pc' := 54) rfl dX0_sameBy_52 rfl (ihP (fun h => nomatch h) rfl) rfl ?_
  refine bplain (pc' := 55) rfl dX0_sameBy_54 rfl (ihP (fun h => nomatch h) rfl) rfl ?_
  refine bcall (pc' := 58) rfl dX0_sameBy_55 rfl (trivial) (lcv (n := 0) rfl (pvc (lfv mt_X0_takesBack ⟨by decide, by decide⟩ mok_X0_takesBack ⟨by decide, by decide⟩ ⟨q2537, ln_0, Or.inl ⟨q2535, Or.inl qs55⟩⟩) (trivial)) (Or.inl (by decide))) (ihH (fun h => nomatch h) (Or.inl rfl)) rfl ?_
  refine bplain (pc' := 59) rfl dX0_sameBy_58 rfl (ihP (fun h => nomatch h) rfl) rfl ?_
  refine bplain (pc' := 60) rfl dX0_sameBy_59 rfl (ihP (fun h => nomatch h) rfl) rfl ?_
  refine bplain (pc' := 61) rfl dX0_sameBy_60 rfl (ihP (fun h => nomatch h) rfl) rfl ?_
  refine bplain (pc' := 62) rfl dX0_sameBy_61 rfl (ihP (fun h => nomatch h) rfl) rfl ?_
  refine bcall (pc' := 65) rfl dX0_sameBy_62 rfl (trivial) (lcv (n := 3) rfl (pvc (lfv mt_X0_mixes ⟨by decide, by decide⟩ mok_X0_mixes ⟨by decide, by decide⟩ ⟨q2484, ln_237, Or.inl ⟨q2482, Or.inl qs46⟩⟩) (trivial)) (Or.inl (by decide))) (ihH (fun h => nomatch h) (Or.inl rfl)) rfl ?_
  refine bplain (pc' := 66) rfl dX0_sameBy_65 rfl (ihP (fun h => nomatch h) rfl) rfl ?_
  refine bcall (pc' := 69) rfl dX0_sameBy_66 rfl (trivial) (lcv (n := 0) rfl (pvc (lfv mt_X0_isFound ⟨by decide, by decide⟩ mok_X0_isFound ⟨by decide, by decide⟩ ⟨q2541, ln_30, Or.inl ⟨q2539, Or.inl qs56⟩⟩) (trivial)) (Or.inl (by decide))) (ihH (fun h => nomatch h) (Or.inl rfl)) rfl ?_
  refine bjmp (tg := 118) (pc' := 72) rfl (by decide) (by decide) rfl dX0_sameBy_69 rfl (ihP (fun h => nomatch h) rfl) rfl ?_
  refine bplain (pc' := 74) rfl dX0_sameBy_72 rfl (ihP (fun h => nomatch h) rfl) rfl ?_
  refine bplain (pc' := 75) rfl dX0_sameBy_74 rfl (ihP (fun h => nomatch h) rfl) rfl ?_
  refine bthr (pc' := 78) rfl dX0_sameBy_75 rfl (lkf0 q1126 lf_128) (trivial) (ihP (fun h => nomatch h) rfl) rfl ?_
  refine bplain (pc' := 79) rfl dX0_sameBy_78 rfl (ihP (fun h => nomatch h) rfl) rfl ?_
  refine bplain (pc' := 80) rfl dX0_sameBy_79 rfl (ihP (fun h => nomatch h) rfl) rfl ?_
  refine bjmp (tg := 118) (pc' := 83) rfl (by decide) (by decide) rfl dX0_sameBy_80 rfl (ihP (fun h => nomatch h) rfl) rfl ?_
  refine bplain (pc' := 85) rfl dX0_sameBy_83 rfl (ihP (fun h => nomatch h) rfl) rfl ?_
  refine bplain (pc' := 86) rfl dX0_sameBy_85 rfl (ihP (fun h => nomatch h) rfl) rfl ?_
  refine bthr (pc' := 89) rfl dX0_sameBy_86 rfl (lkf0 q1126 lf_128) (trivial) (ihP (fun h => nomatch h) rfl) rfl ?_
  refine bplain (pc' := 90) rfl dX0_sameBy_89 rfl (ihP (fun h => nomatch h) rfl) rfl ?_
  refine bplain (pc' := 91) rfl dX0_sameBy_90 rfl (ihP (fun h => nomatch h) rfl) rfl ?_
  refine bjmp (tg := 118) (pc' := 94) rfl (by decide) (by decide) rfl dX0_sameBy_91 rfl (ihP (fun h => nomatch h) rfl) rfl ?_
  refine bplain (pc' := 96) rfl dX0_sameBy_94 rfl (ihP (fun h => nomatch h) rfl) rfl ?_
  refine bplain (pc' := 97) rfl dX0_sameBy_96 rfl (ihP (fun h => nomatch h) rfl) rfl ?_
  refine bthr (pc' := 100) rfl dX0_sameBy_97 rfl (lkf0 q1126 lf_128) (trivial) (ihP (fun h => nomatch h) rfl) rfl ?_
  refine bplain (pc' := 101) rfl dX0_sameBy_100 rfl (ihP (fun h => nomatch h) rfl) rfl ?_
  refine bplain (pc' := 102) rfl dX0_sameBy_101 rfl (ihP (fun h => nomatch h) rfl) rfl ?_
  refine bjmp (tg := 118) (pc' := 105) rfl (by decide) (by decide) rfl dX0_sameBy_102 rfl (ihP (fun h => nomatch h) rfl) rfl ?_
  refine bplain (pc' := 107) rfl dX0_sameBy_105 rfl (ihP (fun h => nomatch h) rfl) rfl ?_
  refine bplain (pc' := 108) rfl dX0_sameBy_107 rfl (ihP (fun h => nomatch h) rfl) rfl ?_
  refine bthr (pc' := 111) rfl dX0_sameBy_108 rfl (lkf0 q1131 lf_465) (trivial) (ihP (fun h => nomatch h) rfl) rfl ?_
  refine bjmp (tg := 118) (pc' := 114) rfl (by decide) (by decide) rfl dX0_sameBy_111 rfl (ihP (fun h => nomatch h) rfl) rfl ?_
  refine bplain (pc' := 115) rfl dX0_sameBy_114 rfl (ihP (fun h => nomatch h) rfl) rfl ?_
  refine bjmp (tg := 119) (pc' := 118) rfl (by decide) (by decide) rfl dX0_sameBy_115 rfl (ihP (fun h => nomatch h) rfl) rfl ?_
  exact trivial
theorem bf_X0_sameBy_118 : BOKt mt tX0_sameBy 389 118 b_X0_sameBy_118 := by
  refine bnop1 ?_
  refine bplain (pc' := 119) rfl dX0_sameBy_118 rfl (ihP (fun h => nomatch h) rfl) rfl ?_
  exact bnop0 rfl (by decide)
theorem bf_X0_sameBy_119 : BOKt mt tX0_sameBy 389 119 b_X0_sameBy_119 := by
  refine bnop1 ?_
  refine bplain (pc' := 121) rfl dX0_sameBy_119 rfl (ihP (fun h => nomatch h) rfl) rfl ?_
  refine bplain (pc' := 122) rfl dX0_sameBy_121 rfl (ihP (fun h => nomatch h) rfl) rfl ?_
  refine bcall (pc' := 125) rfl dX0_sameBy_122 rfl (trivial) (lcv (n := 0) rfl (pvc (lfv mt_X0_takesBack ⟨by decide, by decide⟩ mok_X0_takesBack ⟨by decide, by decide⟩ ⟨q2537, ln_0, Or.inl ⟨q2535, Or.inl qs55⟩⟩) (trivial)) (Or.inl (by decide))) (ihH (fun h => nomatch h) (hokN (by decide +kernel))) rfl ?_
  refine bplain (pc' := 126) rfl dX0_sameBy_125 rfl (ihP (fun h => nomatch h) rfl) rfl ?_
  refine bplain (pc' := 128) rfl dX0_sameBy_126 rfl (ihP (fun h => nomatch h) rfl) rfl ?_
  exact bnop0 rfl (by decide)
theorem bf_X0_sameBy_128 : BOKt mt tX0_sameBy 389 128 b_X0_sameBy_128 := by
  refine bnop1 ?_
  refine bplain (pc' := 130) rfl dX0_sameBy_128 rfl (ihP (fun h => nomatch h) rfl) rfl ?_
  refine bplain (pc' := 132) rfl dX0_sameBy_130 rfl (ihP (fun h => nomatch h) rfl) rfl ?_
  refine bjmp (tg := 195) (pc' := 135) rfl (by decide) (by decide) rfl dX0_sameBy_132 rfl (ihP (fun h => nomatch h) rfl) rfl ?_
  refine bplain (pc' := 136) rfl dX0_sameBy_135 rfl (ihP (fun h => nomatch h) rfl) rfl ?_
  refine bthr (pc' := 139) rfl dX0_sameBy_136 rfl (lkf0 q1112 lf_113) (trivial) (ihP (fun h => nomatch h) rfl) rfl ?_
  refine bplain (pc' := 141) rfl dX0_sameBy_139 rfl (ihP (fun h => nomatch h) rfl) rfl ?_
  refine bplain (pc' := 142) rfl dX0_sameBy_141 rfl (ihP (fun h => nomatch h) rfl) rfl ?_
  refine bplain (pc' := 144) rfl dX0_sameBy_142 rfl (ihP (fun h => nomatch h) rfl) rfl ?_
  refine bplain (pc' := 145) rfl dX0_sameBy_144 rfl (ihP (fun h => nomatch h) rfl) rfl ?_
  refine bplain (pc' := 147) rfl dX0_sameBy_145 rfl (ihP (fun h => nomatch h) rfl) rfl ?_
  exact bnop0 rfl (by decide)
theorem bf_X0_sameBy_147 : BOKt mt tX0_sameBy 389 147 b_X0_sameBy_147 := by
  refine bnop1 ?_
  refine bplain (pc' := 149) rfl dX0_sameBy_147 rfl (ihP (fun h => nomatch h) rfl) rfl ?_
  refine bjmp (tg := 189) (pc' := 152) rfl (by decide) (by decide) rfl dX0_sameBy_149 rfl (ihP (fun h => nomatch h) rfl) rfl ?_
  refine bplain (pc' := 154) rfl dX0_sameBy_152 rfl (ihP (fun h => nomatch h) rfl) rfl ?_
  refine bplain (pc' := 156) rfl dX0_sameBy_154 rfl (ihP (fun h => nomatch h) rfl) rfl ?_
  refine bthr (pc' := 159) rfl dX0_sameBy_156 rfl (lkf1 (host := "StrideTurns") (by decide) q1231 lf_216) (trivial) (ihP (fun h => nomatch h) rfl) rfl ?_
  refine bjmp (tg := 189) (pc' := 162) rfl (by decide) (by decide) rfl dX0_sameBy_159 rfl (ihP (fun h => nomatch h) rfl) rfl ?_
  refine bplain (pc' := 164) rfl dX0_sameBy_162 rfl (ihP (fun h => nomatch h) rfl) rfl ?_
  refine bthr (pc' := 167) rfl dX0_sameBy_164 rfl (lkf1 (host := "StrideTurns") (by decide) q1234 lf_218) (trivial) (ihP (fun h => nomatch h) rfl) rfl ?_
  refine bplain (pc' := 169) rfl dX0_sameBy_167 rfl (ihP (fun h => nomatch h) rfl) rfl ?_
  refine bplain (pc' := 170) rfl dX0_sameBy_169 rfl (ihP (fun h => nomatch h) rfl) rfl ?_
  refine bthr (pc' := 173) rfl dX0_sameBy_170 rfl (lkf0 q1137 lf_141) (trivial) (ihP (fun h => nomatch h) rfl) rfl ?_
  refine bplain (pc' := 175) rfl dX0_sameBy_173 rfl (ihP (fun h => nomatch h) rfl) rfl ?_
  refine bplain (pc' := 177) rfl dX0_sameBy_175 rfl (ihP (fun h => nomatch h) rfl) rfl ?_
  refine bplain (pc' := 178) rfl dX0_sameBy_177 rfl (ihP (fun h => nomatch h) rfl) rfl ?_
  refine bplain (pc' := 180) rfl dX0_sameBy_178 rfl (ihP (fun h => nomatch h) rfl) rfl ?_
  refine bplain (pc' := 181) rfl dX0_sameBy_180 rfl (ihP (fun h => nomatch h) rfl) rfl ?_
  refine bplain (pc' := 182) rfl dX0_sameBy_181 rfl (ihP (fun h => nomatch h) rfl) rfl ?_
  refine bplain (pc' := 183) rfl dX0_sameBy_182 rfl (ihP (fun h => nomatch h) rfl) rfl ?_
  refine bplain (pc' := 186) rfl dX0_sameBy_183 rfl (ihP (fun h => nomatch h) rfl) rfl ?_
  refine bjmp (tg := 147) (pc' := 189) rfl (by decide) (by decide) rfl dX0_sameBy_186 rfl (ihP (fun h => nomatch h) rfl) rfl ?_
  exact trivial
theorem bf_X0_sameBy_189 : BOKt mt tX0_sameBy 389 189 b_X0_sameBy_189 := by
  refine bnop1 ?_
  refine bplain (pc' := 192) rfl dX0_sameBy_189 rfl (ihP (fun h => nomatch h) rfl) rfl ?_
  refine bjmp (tg := 128) (pc' := 195) rfl (by decide) (by decide) rfl dX0_sameBy_192 rfl (ihP (fun h => nomatch h) rfl) rfl ?_
  exact trivial
theorem bf_X0_sameBy_195 : BOKt mt tX0_sameBy 389 195 b_X0_sameBy_195 := by
  refine bplain (pc' := 197) rfl dX0_sameBy_195 rfl (ihP (fun h => nomatch h) rfl) rfl ?_
  refine bret (pc' := 198) rfl dX0_sameBy_197 rfl (Or.inl ⟨rfl, rfl⟩) (ihP (fun h => nomatch h) rfl) rfl ?_
  exact trivial
theorem bf_X0_sameBy_198 : BOKt mt tX0_sameBy 389 198 b_X0_sameBy_198 := by
  refine bnop1 ?_
  refine bplain (pc' := 200) rfl dX0_sameBy_198 rfl (ihP (fun h => nomatch h) rfl) rfl ?_
  refine bplain (pc' := 201) rfl dX0_sameBy_200 rfl (ihP (fun h => nomatch h) rfl) rfl ?_
  refine bcall (pc' := 204) rfl dX0_sameBy_201 rfl (trivial) (lcv (n := 0) rfl (pvc (lfv mt_X0_takesBack ⟨by decide, by decide⟩ mok_X0_takesBack ⟨by decide, by decide⟩ ⟨q2537, ln_0, Or.inl ⟨q2535, Or.inl qs55⟩⟩) (trivial)) (Or.inl (by decide))) (ihH (fun h => nomatch h) (hokN (by decide +kernel))) rfl ?_
  refine bplain (pc' := 205) rfl dX0_sameBy_204 rfl (ihP (fun h => nomatch h) rfl) rfl ?_
  refine bplain (pc' := 207) rfl dX0_sameBy_205 rfl (ihP (fun h => nomatch h) rfl) rfl ?_
  exact bnop0 rfl (by decide)
theorem bf_X0_sameBy_207 : BOKt mt tX0_sameBy 389 207 b_X0_sameBy_207 := by
  refine bnop1 ?_
  refine bplain (pc' := 209) rfl dX0_sameBy_207 rfl (ihP (fun h => nomatch h) rfl) rfl ?_
  refine bplain (pc' := 211) rfl dX0_sameBy_209 rfl (ihP (fun h => nomatch h) rfl) rfl ?_
  refine bjmp (tg := 274) (pc' := 214) rfl (by decide) (by decide) rfl dX0_sameBy_211 rfl (ihP (fun h => nomatch h) rfl) rfl ?_
  refine bplain (pc' := 215) rfl dX0_sameBy_214 rfl (ihP (fun h => nomatch h) rfl) rfl ?_
  refine bthr (pc' := 218) rfl dX0_sameBy_215 rfl (lkf0 q1112 lf_113) (trivial) (ihP (fun h => nomatch h) rfl) rfl ?_
  refine bplain (pc' := 220) rfl dX0_sameBy_218 rfl (ihP (fun h => nomatch h) rfl) rfl ?_
  refine bplain (pc' := 221) rfl dX0_sameBy_220 rfl (ihP (fun h => nomatch h) rfl) rfl ?_
  refine bplain (pc' := 223) rfl dX0_sameBy_221 rfl (ihP (fun h => nomatch h) rfl) rfl ?_
  refine bplain (pc' := 224) rfl dX0_sameBy_223 rfl (ihP (fun h => nomatch h) rfl) rfl ?_
  refine bplain (pc' := 226) rfl dX0_sameBy_224 rfl (ihP (fun h => nomatch h) rfl) rfl ?_
  exact bnop0 rfl (by decide)
theorem bf_X0_sameBy_226 : BOKt mt tX0_sameBy 389 226 b_X0_sameBy_226 := by
  refine bnop1 ?_
  refine bplain (pc' := 228) rfl dX0_sameBy_226 rfl (ihP (fun h => nomatch h) rfl) rfl ?_
  refine bjmp (tg := 268) (pc' := 231) rfl (by decide) (by decide) rfl dX0_sameBy_228 rfl (ihP (fun h => nomatch h) rfl) rfl ?_
  refine bplain (pc' := 233) rfl dX0_sameBy_231 rfl (ihP (fun h => nomatch h) rfl) rfl ?_
  refine bplain (pc' := 235) rfl dX0_sameBy_233 rfl (ihP (fun h => nomatch h) rfl) rfl ?_
  refine bthr (pc' := 238) rfl dX0_sameBy_235 rfl (lkf1 (host := "StrideTurns") (by decide) q1231 lf_216) (trivial) (ihP (fun h => nomatch h) rfl) rfl ?_
  refine bjmp (tg := 268) (pc' := 241) rfl (by decide) (by decide) rfl dX0_sameBy_238 rfl (ihP (fun h => nomatch h) rfl) rfl ?_
  refine bplain (pc' := 243) rfl dX0_sameBy_241 rfl (ihP (fun h => nomatch h) rfl) rfl ?_
  refine bthr (pc' := 246) rfl dX0_sameBy_243 rfl (lkf1 (host := "StrideTurns") (by decide) q1234 lf_218) (trivial) (ihP (fun h => nomatch h) rfl) rfl ?_
  refine bplain (pc' := 248) rfl dX0_sameBy_246 rfl (ihP (fun h => nomatch h) rfl) rfl ?_
  refine bplain (pc' := 249) rfl dX0_sameBy_248 rfl (ihP (fun h => nomatch h) rfl) rfl ?_
  refine bthr (pc' := 252) rfl dX0_sameBy_249 rfl (lkf0 q1137 lf_141) (trivial) (ihP (fun h => nomatch h) rfl) rfl ?_
  refine bplain (pc' := 254) rfl dX0_sameBy_252 rfl (ihP (fun h => nomatch h) rfl) rfl ?_
  refine bplain (pc' := 256) rfl dX0_sameBy_254 rfl (ihP (fun h => nomatch h) rfl) rfl ?_
  refine bplain (pc' := 257) rfl dX0_sameBy_256 rfl (ihP (fun h => nomatch h) rfl) rfl ?_
  refine bplain (pc' := 259) rfl dX0_sameBy_257 rfl (ihP (fun h => nomatch h) rfl) rfl ?_
  refine bplain (pc' := 260) rfl dX0_sameBy_259 rfl (ihP (fun h => nomatch h) rfl) rfl ?_
  refine bplain (pc' := 261) rfl dX0_sameBy_260 rfl (ihP (fun h => nomatch h) rfl) rfl ?_
  refine bplain (pc' := 262) rfl dX0_sameBy_261 rfl (ihP (fun h => nomatch h) rfl) rfl ?_
  refine bplain (pc' := 265) rfl dX0_sameBy_262 rfl (ihP (fun h => nomatch h) rfl) rfl ?_
  refine bjmp (tg := 226) (pc' := 268) rfl (by decide) (by decide) rfl dX0_sameBy_265 rfl (ihP (fun h => nomatch h) rfl) rfl ?_
  exact trivial
theorem bf_X0_sameBy_268 : BOKt mt tX0_sameBy 389 268 b_X0_sameBy_268 := by
  refine bnop1 ?_
  refine bplain (pc' := 271) rfl dX0_sameBy_268 rfl (ihP (fun h => nomatch h) rfl) rfl ?_
  refine bjmp (tg := 207) (pc' := 274) rfl (by decide) (by decide) rfl dX0_sameBy_271 rfl (ihP (fun h => nomatch h) rfl) rfl ?_
  exact trivial
theorem bf_X0_sameBy_274 : BOKt mt tX0_sameBy 389 274 b_X0_sameBy_274 := by
  refine bplain (pc' := 276) rfl dX0_sameBy_274 rfl (ihP (fun h => nomatch h) rfl) rfl ?_
  refine bplain (pc' := 277) rfl dX0_sameBy_276 rfl (ihP (fun h => nomatch h) rfl) rfl ?_
  exact trivial
theorem tf_X0_sameBy : ∀ x ∈ tb_X0_sameBy, BOK mt 389 x.1 x.2 := tb_c mt_X0_sameBy bf_X0_sameBy_0 (tb_c mt_X0_sameBy bf_X0_sameBy_118 (tb_c mt_X0_sameBy bf_X0_sameBy_119 (tb_c mt_X0_sameBy bf_X0_sameBy_128 (tb_c mt_X0_sameBy bf_X0_sameBy_147 (tb_c mt_X0_sameBy bf_X0_sameBy_189 (tb_c mt_X0_sameBy bf_X0_sameBy_195 (tb_c mt_X0_sameBy bf_X0_sameBy_198 (tb_c mt_X0_sameBy bf_X0_sameBy_207 (tb_c mt_X0_sameBy bf_X0_sameBy_226 (tb_c mt_X0_sameBy bf_X0_sameBy_268 (tb_c mt_X0_sameBy bf_X0_sameBy_274 (tb_n))))))))))))
theorem bf_X0_same_0 : BOKt mt tX0_same 390 0 b_X0_same_0 := by
  refine bplain (pc' := 1) rfl dX0_same_0 rfl (ihN rfl) rfl ?_
  refine bplain (pc' := 2) rfl dX0_same_1 rfl (ihN rfl) rfl ?_
  refine bplain (pc' := 3) rfl dX0_same_2 rfl (ihN rfl) rfl ?_
  refine bplain (pc' := 5) rfl dX0_same_3 rfl (ihN rfl) rfl ?_
  refine bcall (pc' := 8) rfl dX0_same_5 rfl (trivial) (lcs (l := q2468) mt_X0_isMix ⟨by decide, by decide⟩ mok_X0_isMix rfl ln_570 (Or.inl q2467)) (ihN rfl) rfl ?_
  refine bjmp (tg := 14) (pc' := 11) rfl (by decide) (by decide) rfl dX0_same_8 rfl (ihN rfl) rfl ?_
  refine bplain (pc' := 13) rfl dX0_same_11 rfl (ihN rfl) rfl ?_
  refine bret (pc' := 14) rfl dX0_same_13 rfl (Or.inl ⟨rfl, rfl⟩) (ihN rfl) rfl ?_
  exact trivial
theorem bf_X0_same_14 : BOKt mt tX0_same 390 14 b_X0_same_14 := by
  refine bplain (pc' := 16) rfl dX0_same_14 rfl (ihN rfl) rfl ?_
  refine bjmp (tg := 31) (pc' := 19) rfl (by decide) (by decide) rfl dX0_same_16 rfl (ihN rfl) rfl ?_
  refine bplain (pc' := 20) rfl dX0_same_19 rfl (ihN rfl) rfl ?_
  refine bcall (pc' := 23) rfl dX0_same_20 rfl (trivial) (lcv (n := 0) rfl (pvc (lfv mt_X0_isParallel ⟨by decide, by decide⟩ mok_X0_isParallel ⟨by decide, by decide⟩ ⟨q2476, ln_30, Or.inl ⟨q2474, Or.inl qs44⟩⟩) (trivial)) (Or.inl (by decide))) (ihN rfl) rfl ?_
  refine bjmp (tg := 31) (pc' := 26) rfl (by decide) (by decide) rfl dX0_same_23 rfl (ihN rfl) rfl ?_
  refine bplain (pc' := 28) rfl dX0_same_26 rfl (ihN rfl) rfl ?_
  refine bjmp (tg := 38) (pc' := 31) rfl (by decide) (by decide) rfl dX0_same_28 rfl (ihN rfl) rfl ?_
  exact trivial
theorem bf_X0_same_31 : BOKt mt tX0_same 390 31 b_X0_same_31 := by
  refine bnop1 ?_
  refine bplain (pc' := 32) rfl dX0_same_31 rfl (ihN rfl) rfl ?_
  refine bplain (pc' := 33) rfl dX0_same_32 rfl (ihN rfl) rfl ?_
  refine bplain (pc' := 34) rfl dX0_same_33 rfl (ihN rfl) rfl ?_
  refine bplain (pc' := 35) rfl dX0_same_34 rfl (ihN rfl) rfl ?_
  refine bcall (pc' := 38) rfl dX0_same_35 rfl (trivial) (lcv (n := 3) rfl (pvc (lfv mt_X0_sameBy ⟨by decide, by decide⟩ mok_X0_sameBy ⟨by decide, by decide⟩ ⟨q2525, ln_255, Or.inl ⟨q2523, Or.inl qs52⟩⟩) (trivial)) (Or.inl (by decide))) (ihN rfl) rfl ?_
  exact bnop0 rfl (by decide)
theorem bf_X0_same_38 : BOKt mt tX0_same 390 38 b_X0_same_38 := by
  refine bnop1 ?_
  refine bret (pc' := 39) rfl dX0_same_38 rfl (Or.inl ⟨rfl, rfl⟩) (ihN rfl) rfl ?_
  exact trivial
theorem tf_X0_same : ∀ x ∈ tb_X0_same, BOK mt 390 x.1 x.2 := tb_c mt_X0_same bf_X0_same_0 (tb_c mt_X0_same bf_X0_same_14 (tb_c mt_X0_same bf_X0_same_31 (tb_c mt_X0_same bf_X0_same_38 (tb_n))))
theorem bf_X3_sameNow_0 : BOKt mt tX3_sameNow 391 0 b_X3_sameNow_0 := by
  refine bplain (pc' := 1) rfl dX3_sameNow_0 rfl (ihN rfl) rfl ?_
  refine bthr (pc' := 4) rfl dX3_sameNow_1 rfl (lkf0 q2631 lf_543) (trivial) (ihN rfl) rfl ?_
  refine bplain (pc' := 6) rfl dX3_sameNow_4 rfl (ihN rfl) rfl ?_
  refine bplain (pc' := 7) rfl dX3_sameNow_6 rfl (ihN rfl) rfl ?_
  refine bthr (pc' := 10) rfl dX3_sameNow_7 rfl (lkf0 q2634 lf_545) (trivial) (ihN rfl) rfl ?_
  refine bplain (pc' := 12) rfl dX3_sameNow_10 rfl (ihN rfl) rfl ?_
  refine bplain (pc' := 13) rfl dX3_sameNow_12 rfl (ihN rfl) rfl ?_
  refine bplain (pc' := 15) rfl dX3_sameNow_13 rfl (ihN rfl) rfl ?_
  exact bnop0 rfl (by decide)
theorem bf_X3_sameNow_15 : BOKt mt tX3_sameNow 391 15 b_X3_sameNow_15 := by
  refine bnop1 ?_
  refine bplain (pc' := 17) rfl dX3_sameNow_15 rfl (ihN rfl) rfl ?_
  refine bplain (pc' := 20) rfl dX3_sameNow_17 rfl (ihN rfl) rfl ?_
  refine bjmp (tg := 57) (pc' := 23) rfl (by decide) (by decide) rfl dX3_sameNow_20 rfl (ihN rfl) rfl ?_
  refine bplain (pc' := 24) rfl dX3_sameNow_23 rfl (ihN rfl) rfl ?_
  refine bthr (pc' := 27) rfl dX3_sameNow_24 rfl (lkf0 q2638 lf_197) (trivial) (ihN rfl) rfl ?_
  refine bplain (pc' := 29) rfl dX3_sameNow_27 rfl (ihN rfl) rfl ?_
  refine bplain (pc' := 30) rfl dX3_sameNow_29 rfl (ihN rfl) rfl ?_
  refine bthr (pc' := 33) rfl dX3_sameNow_30 rfl (lkf0 q2599 lf_149) (trivial) (ihN rfl) rfl ?_
  refine bplain (pc' := 35) rfl dX3_sameNow_33 rfl (ihN rfl) rfl ?_
  refine bplain (pc' := 36) rfl dX3_sameNow_35 rfl (ihN rfl) rfl ?_
  refine bplain (pc' := 37) rfl dX3_sameNow_36 rfl (ihN rfl) rfl ?_
  refine bplain (pc' := 38) rfl dX3_sameNow_37 rfl (ihN rfl) rfl ?_
  refine bthr (pc' := 41) rfl dX3_sameNow_38 rfl (lkf0 q2640 lf_201) (trivial) (ihN rfl) rfl ?_
  refine bplain (pc' := 43) rfl dX3_sameNow_41 rfl (ihN rfl) rfl ?_
  refine bplain (pc' := 44) rfl dX3_sameNow_43 rfl (ihN rfl) rfl ?_
  refine bthr (pc' := 47) rfl dX3_sameNow_44 rfl (lkf0 q2600 lf_151) (trivial) (ihN rfl) rfl ?_
  refine bplain (pc' := 49) rfl dX3_sameNow_47 rfl (ihN rfl) rfl ?_
  refine bplain (pc' := 50) rfl dX3_sameNow_49 rfl (ihN rfl) rfl ?_
  refine bplain (pc' := 51) rfl dX3_sameNow_50 rfl (ihN rfl) rfl ?_
  refine bplain (pc' := 54) rfl dX3_sameNow_51 rfl (ihN rfl) rfl ?_
  refine bjmp (tg := 15) (pc' := 57) rfl (by decide) (by decide) rfl dX3_sameNow_54 rfl (ihN rfl) rfl ?_
  exact trivial
theorem bf_X3_sameNow_57 : BOKt mt tX3_sameNow 391 57 b_X3_sameNow_57 := by
  refine bplain (pc' := 58) rfl dX3_sameNow_57 rfl (ihN rfl) rfl ?_
  refine bplain (pc' := 60) rfl dX3_sameNow_58 rfl (ihN rfl) rfl ?_
  exact bnop0 rfl (by decide)
theorem bf_X3_sameNow_60 : BOKt mt tX3_sameNow 391 60 b_X3_sameNow_60 := by
  refine bnop1 ?_
  refine bplain (pc' := 62) rfl dX3_sameNow_60 rfl (ihN rfl) rfl ?_
  refine bplain (pc' := 64) rfl dX3_sameNow_62 rfl (ihN rfl) rfl ?_
  refine bjmp (tg := 87) (pc' := 67) rfl (by decide) (by decide) rfl dX3_sameNow_64 rfl (ihN rfl) rfl ?_
  refine bplain (pc' := 68) rfl dX3_sameNow_67 rfl (ihN rfl) rfl ?_
  refine bthr (pc' := 71) rfl dX3_sameNow_68 rfl (lkf0 q2641 lf_203) (trivial) (ihN rfl) rfl ?_
  refine bplain (pc' := 73) rfl dX3_sameNow_71 rfl (ihN rfl) rfl ?_
  refine bplain (pc' := 74) rfl dX3_sameNow_73 rfl (ihN rfl) rfl ?_
  refine bthr (pc' := 77) rfl dX3_sameNow_74 rfl (lkf0 q2633 lf_193) (trivial) (ihN rfl) rfl ?_
  refine bplain (pc' := 79) rfl dX3_sameNow_77 rfl (ihN rfl) rfl ?_
  refine bplain (pc' := 80) rfl dX3_sameNow_79 rfl (ihN rfl) rfl ?_
  refine bplain (pc' := 81) rfl dX3_sameNow_80 rfl (ihN rfl) rfl ?_
  refine bplain (pc' := 84) rfl dX3_sameNow_81 rfl (ihN rfl) rfl ?_
  refine bjmp (tg := 60) (pc' := 87) rfl (by decide) (by decide) rfl dX3_sameNow_84 rfl (ihN rfl) rfl ?_
  exact trivial
theorem bf_X3_sameNow_87 : BOKt mt tX3_sameNow 391 87 b_X3_sameNow_87 := by
  refine bplain (pc' := 88) rfl dX3_sameNow_87 rfl (ihN rfl) rfl ?_
  refine bplain (pc' := 90) rfl dX3_sameNow_88 rfl (ihN rfl) rfl ?_
  exact bnop0 rfl (by decide)
theorem bf_X3_sameNow_90 : BOKt mt tX3_sameNow 391 90 b_X3_sameNow_90 := by
  refine bnop1 ?_
  refine bplain (pc' := 92) rfl dX3_sameNow_90 rfl (ihN rfl) rfl ?_
  refine bplain (pc' := 93) rfl dX3_sameNow_92 rfl (ihN rfl) rfl ?_
  refine bjmp (tg := 116) (pc' := 96) rfl (by decide) (by decide) rfl dX3_sameNow_93 rfl (ihN rfl) rfl ?_
  refine bplain (pc' := 97) rfl dX3_sameNow_96 rfl (ihN rfl) rfl ?_
  refine bthr (pc' := 100) rfl dX3_sameNow_97 rfl (lkf0 q2642 lf_205) (trivial) (ihN rfl) rfl ?_
  refine bplain (pc' := 102) rfl dX3_sameNow_100 rfl (ihN rfl) rfl ?_
  refine bplain (pc' := 103) rfl dX3_sameNow_102 rfl (ihN rfl) rfl ?_
  refine bthr (pc' := 106) rfl dX3_sameNow_103 rfl (lkf0 q2632 lf_191) (trivial) (ihN rfl) rfl ?_
  refine bplain (pc' := 108) rfl dX3_sameNow_106 rfl (ihN rfl) rfl ?_
  refine bplain (pc' := 109) rfl dX3_sameNow_108 rfl (ihN rfl) rfl ?_
  refine bplain (pc' := 110) rfl dX3_sameNow_109 rfl (ihN rfl) rfl ?_
  refine bplain (pc' := 113) rfl dX3_sameNow_110 rfl (ihN rfl) rfl ?_
  refine bjmp (tg := 90) (pc' := 116) rfl (by decide) (by decide) rfl dX3_sameNow_113 rfl (ihN rfl) rfl ?_
  exact trivial
theorem bf_X3_sameNow_116 : BOKt mt tX3_sameNow 391 116 b_X3_sameNow_116 := by
  refine bplain (pc' := 117) rfl dX3_sameNow_116 rfl (ihN rfl) rfl ?_
  refine bcall (pc' := 120) rfl dX3_sameNow_117 rfl (trivial) (lcv (n := 0) rfl (pvc (lfv mt_X3_runNow ⟨by decide, by decide⟩ mok_X3_runNow ⟨by decide, by decide⟩ ⟨q3059, ln_40, Or.inl ⟨q3057, Or.inl qs108⟩⟩) (trivial)) (Or.inl (by decide))) (ihN rfl) rfl ?_
  refine bplain (pc' := 122) rfl dX3_sameNow_120 rfl (ihN rfl) rfl ?_
  refine bplain (pc' := 123) rfl dX3_sameNow_122 rfl (ihN rfl) rfl ?_
  refine bplain (pc' := 125) rfl dX3_sameNow_123 rfl (ihN rfl) rfl ?_
  exact bnop0 rfl (by decide)
theorem bf_X3_sameNow_125 : BOKt mt tX3_sameNow 391 125 b_X3_sameNow_125 := by
  refine bnop1 ?_
  refine bplain (pc' := 127) rfl dX3_sameNow_125 rfl (ihN rfl) rfl ?_
  refine bplain (pc' := 128) rfl dX3_sameNow_127 rfl (ihN rfl) rfl ?_
  refine bjmp (tg := 151) (pc' := 131) rfl (by decide) (by decide) rfl dX3_sameNow_128 rfl (ihN rfl) rfl ?_
  refine bplain (pc' := 132) rfl dX3_sameNow_131 rfl (ihN rfl) rfl ?_
  refine bthr (pc' := 135) rfl dX3_sameNow_132 rfl (lkf0 q2643 lf_207) (trivial) (ihN rfl) rfl ?_
  refine bplain (pc' := 137) rfl dX3_sameNow_135 rfl (ihN rfl) rfl ?_
  refine bplain (pc' := 138) rfl dX3_sameNow_137 rfl (ihN rfl) rfl ?_
  refine bthr (pc' := 141) rfl dX3_sameNow_138 rfl (lkf0 q2632 lf_191) (trivial) (ihN rfl) rfl ?_
  refine bplain (pc' := 143) rfl dX3_sameNow_141 rfl (ihN rfl) rfl ?_
  refine bplain (pc' := 144) rfl dX3_sameNow_143 rfl (ihN rfl) rfl ?_
  refine bplain (pc' := 145) rfl dX3_sameNow_144 rfl (ihN rfl) rfl ?_
  refine bplain (pc' := 148) rfl dX3_sameNow_145 rfl (ihN rfl) rfl ?_
  refine bjmp (tg := 125) (pc' := 151) rfl (by decide) (by decide) rfl dX3_sameNow_148 rfl (ihN rfl) rfl ?_
  exact trivial
theorem bf_X3_sameNow_151 : BOKt mt tX3_sameNow 391 151 b_X3_sameNow_151 := by
  refine bplain (pc' := 152) rfl dX3_sameNow_151 rfl (ihN rfl) rfl ?_
  refine bplain (pc' := 154) rfl dX3_sameNow_152 rfl (ihN rfl) rfl ?_
  exact bnop0 rfl (by decide)
theorem bf_X3_sameNow_154 : BOKt mt tX3_sameNow 391 154 b_X3_sameNow_154 := by
  refine bnop1 ?_
  refine bplain (pc' := 156) rfl dX3_sameNow_154 rfl (ihN rfl) rfl ?_
  refine bplain (pc' := 159) rfl dX3_sameNow_156 rfl (ihN rfl) rfl ?_
  refine bjmp (tg := 196) (pc' := 162) rfl (by decide) (by decide) rfl dX3_sameNow_159 rfl (ihN rfl) rfl ?_
  refine bplain (pc' := 163) rfl dX3_sameNow_162 rfl (ihN rfl) rfl ?_
  refine bthr (pc' := 166) rfl dX3_sameNow_163 rfl (lkf0 q2639 lf_199) (trivial) (ihN rfl) rfl ?_
  refine bplain (pc' := 168) rfl dX3_sameNow_166 rfl (ihN rfl) rfl ?_
  refine bplain (pc' := 169) rfl dX3_sameNow_168 rfl (ihN rfl) rfl ?_
  refine bthr (pc' := 172) rfl dX3_sameNow_169 rfl (lkf0 q2599 lf_149) (trivial) (ihN rfl) rfl ?_
  refine bplain (pc' := 174) rfl dX3_sameNow_172 rfl (ihN rfl) rfl ?_
  refine bplain (pc' := 175) rfl dX3_sameNow_174 rfl (ihN rfl) rfl ?_
  refine bplain (pc' := 176) rfl dX3_sameNow_175 rfl (ihN rfl) rfl ?_
  refine bplain (pc' := 177) rfl dX3_sameNow_176 rfl (ihN rfl) rfl ?_
  refine bthr (pc' := 180) rfl dX3_sameNow_177 rfl (lkf0 q2599 lf_149) (trivial) (ihN rfl) rfl ?_
  refine bplain (pc' := 182) rfl dX3_sameNow_180 rfl (ihN rfl) rfl ?_
  refine bplain (pc' := 183) rfl dX3_sameNow_182 rfl (ihN rfl) rfl ?_
  refine bthr (pc' := 186) rfl dX3_sameNow_183 rfl (lkf0 q2638 lf_197) (trivial) (ihN rfl) rfl ?_
  refine bplain (pc' := 188) rfl dX3_sameNow_186 rfl (ihN rfl) rfl ?_
  refine bplain (pc' := 189) rfl dX3_sameNow_188 rfl (ihN rfl) rfl ?_
  refine bplain (pc' := 190) rfl dX3_sameNow_189 rfl (ihN rfl) rfl ?_
  refine bplain (pc' := 193) rfl dX3_sameNow_190 rfl (ihN rfl) rfl ?_
  refine bjmp (tg := 154) (pc' := 196) rfl (by decide) (by decide) rfl dX3_sameNow_193 rfl (ihN rfl) rfl ?_
  exact trivial
theorem bf_X3_sameNow_196 : BOKt mt tX3_sameNow 391 196 b_X3_sameNow_196 := by
  refine bplain (pc' := 197) rfl dX3_sameNow_196 rfl (ihN rfl) rfl ?_
  refine bplain (pc' := 198) rfl dX3_sameNow_197 rfl (ihN rfl) rfl ?_
  refine bplain (pc' := 199) rfl dX3_sameNow_198 rfl (ihN rfl) rfl ?_
  refine bplain (pc' := 200) rfl dX3_sameNow_199 rfl (ihN rfl) rfl ?_
  refine bcall (pc' := 203) rfl dX3_sameNow_200 rfl (trivial) (lcv (n := 3) rfl (pvc (lfv mt_X3_mixes ⟨by decide, by decide⟩ mok_X3_mixes ⟨by decide, by decide⟩ ⟨q3140, ln_255, Or.inl ⟨q3138, Or.inl qs124⟩⟩) (trivial)) (Or.inl (by decide))) (ihN rfl) rfl ?_
  refine bplain (pc' := 205) rfl dX3_sameNow_203 rfl (ihN rfl) rfl ?_
  refine bjmp (tg := 212) (pc' := 208) rfl (by decide) (by decide) rfl dX3_sameNow_205 rfl (ihN rfl) rfl ?_
  refine bplain (pc' := 209) rfl dX3_sameNow_208 rfl (ihN rfl) rfl ?_
  refine bjmp (tg := 213) (pc' := 212) rfl (by decide) (by decide) rfl dX3_sameNow_209 rfl (ihN rfl) rfl ?_
  exact trivial
theorem bf_X3_sameNow_212 : BOKt mt tX3_sameNow 391 212 b_X3_sameNow_212 := by
  refine bplain (pc' := 213) rfl dX3_sameNow_212 rfl (ihN rfl) rfl ?_
  exact bnop0 rfl (by decide)
theorem bf_X3_sameNow_213 : BOKt mt tX3_sameNow 391 213 b_X3_sameNow_213 := by
  refine bnop1 ?_
  refine bplain (pc' := 215) rfl dX3_sameNow_213 rfl (ihN rfl) rfl ?_
  refine bplain (pc' := 216) rfl dX3_sameNow_215 rfl (ihN rfl) rfl ?_
  refine bplain (pc' := 218) rfl dX3_sameNow_216 rfl (ihN rfl) rfl ?_
  exact bnop0 rfl (by decide)
theorem bf_X3_sameNow_218 : BOKt mt tX3_sameNow 391 218 b_X3_sameNow_218 := by
  refine bnop1 ?_
  refine bplain (pc' := 220) rfl dX3_sameNow_218 rfl (ihN rfl) rfl ?_
  refine bplain (pc' := 221) rfl dX3_sameNow_220 rfl (ihN rfl) rfl ?_
  refine bjmp (tg := 273) (pc' := 224) rfl (by decide) (by decide) rfl dX3_sameNow_221 rfl (ihN rfl) rfl ?_
  refine bplain (pc' := 226) rfl dX3_sameNow_224 rfl (ihN rfl) rfl ?_
  refine bjmp (tg := 250) (pc' := 229) rfl (by decide) (by decide) rfl dX3_sameNow_226 rfl (ihN rfl) rfl ?_
  refine bplain (pc' := 230) rfl dX3_sameNow_229 rfl (ihN rfl) rfl ?_
  refine bthr (pc' := 233) rfl dX3_sameNow_230 rfl (lkf0 q2643 lf_207) (trivial) (ihN rfl) rfl ?_
  refine bplain (pc' := 235) rfl dX3_sameNow_233 rfl (ihN rfl) rfl ?_
  refine bplain (pc' := 236) rfl dX3_sameNow_235 rfl (ihN rfl) rfl ?_
  refine bplain (pc' := 237) rfl dX3_sameNow_236 rfl (ihN rfl) rfl ?_
  refine bthr (pc' := 240) rfl dX3_sameNow_237 rfl (lkf0 q2632 lf_191) (trivial) (ihN rfl) rfl ?_
  refine bplain (pc' := 242) rfl dX3_sameNow_240 rfl (ihN rfl) rfl ?_
  refine bplain (pc' := 243) rfl dX3_sameNow_242 rfl (ihN rfl) rfl ?_
  refine bjmp (tg := 250) (pc' := 246) rfl (by decide) (by decide) rfl dX3_sameNow_243 rfl (ihN rfl) rfl ?_
  refine bplain (pc' := 247) rfl dX3_sameNow_246 rfl (ihN rfl) rfl ?_
  refine bjmp (tg := 251) (pc' := 250) rfl (by decide) (by decide) rfl dX3_sameNow_247 rfl (ihN rfl) rfl ?_
  exact trivial
theorem bf_X3_sameNow_250 : BOKt mt tX3_sameNow 391 250 b_X3_sameNow_250 := by
  refine bnop1 ?_
  refine bplain (pc' := 251) rfl dX3_sameNow_250 rfl (ihN rfl) rfl ?_
  exact bnop0 rfl (by decide)
theorem bf_X3_sameNow_251 : BOKt mt tX3_sameNow 391 251 b_X3_sameNow_251 := by
  refine bnop1 ?_
  refine bplain (pc' := 253) rfl dX3_sameNow_251 rfl (ihN rfl) rfl ?_
  refine bplain (pc' := 254) rfl dX3_sameNow_253 rfl (ihN rfl) rfl ?_
  refine bthr (pc' := 257) rfl dX3_sameNow_254 rfl (lkf0 q2632 lf_191) (trivial) (ihN rfl) rfl ?_
  refine bplain (pc' := 259) rfl dX3_sameNow_257 rfl (ihN rfl) rfl ?_
  refine bplain (pc' := 260) rfl dX3_sameNow_259 rfl (ihN rfl) rfl ?_
  refine bthr (pc' := 263) rfl dX3_sameNow_260 rfl (lkf0 q2642 lf_205) (trivial) (ihN rfl) rfl ?_
  refine bplain (pc' := 265) rfl dX3_sameNow_263 rfl (ihN rfl) rfl ?_
  refine bplain (pc' := 266) rfl dX3_sameNow_265 rfl (ihN rfl) rfl ?_
  refine bplain (pc' := 267) rfl dX3_sameNow_266 rfl (ihN rfl) rfl ?_
  refine bplain (pc' := 270) rfl dX3_sameNow_267 rfl (ihN rfl) rfl ?_
  refine bjmp (tg := 218) (pc' := 273) rfl (by decide) (by decide) rfl dX3_sameNow_270 rfl (ihN rfl) rfl ?_
  exact trivial
theorem bf_X3_sameNow_273 : BOKt mt tX3_sameNow 391 273 b_X3_sameNow_273 := by
  refine bplain (pc' := 274) rfl dX3_sameNow_273 rfl (ihN rfl) rfl ?_
  refine bplain (pc' := 276) rfl dX3_sameNow_274 rfl (ihN rfl) rfl ?_
  exact bnop0 rfl (by decide)
theorem bf_X3_sameNow_276 : BOKt mt tX3_sameNow 391 276 b_X3_sameNow_276 := by
  refine bnop1 ?_
  refine bplain (pc' := 278) rfl dX3_sameNow_276 rfl (ihN rfl) rfl ?_
  refine bplain (pc' := 281) rfl dX3_sameNow_278 rfl (ihN rfl) rfl ?_
  refine bjmp (tg := 348) (pc' := 284) rfl (by decide) (by decide) rfl dX3_sameNow_281 rfl (ihN rfl) rfl ?_
  refine bplain (pc' := 286) rfl dX3_sameNow_284 rfl (ihN rfl) rfl ?_
  refine bjmp (tg := 311) (pc' := 289) rfl (by decide) (by decide) rfl dX3_sameNow_286 rfl (ihN rfl) rfl ?_
  refine bplain (pc' := 290) rfl dX3_sameNow_289 rfl (ihN rfl) rfl ?_
  refine bthr (pc' := 293) rfl dX3_sameNow_290 rfl (lkf0 q2599 lf_149) (trivial) (ihN rfl) rfl ?_
  refine bplain (pc' := 295) rfl dX3_sameNow_293 rfl (ihN rfl) rfl ?_
  refine bplain (pc' := 296) rfl dX3_sameNow_295 rfl (ihN rfl) rfl ?_
  refine bplain (pc' := 297) rfl dX3_sameNow_296 rfl (ihN rfl) rfl ?_
  refine bthr (pc' := 300) rfl dX3_sameNow_297 rfl (lkf0 q2639 lf_199) (trivial) (ihN rfl) rfl ?_
  refine bplain (pc' := 302) rfl dX3_sameNow_300 rfl (ihN rfl) rfl ?_
  refine bplain (pc' := 303) rfl dX3_sameNow_302 rfl (ihN rfl) rfl ?_
  refine bplain (pc' := 304) rfl dX3_sameNow_303 rfl (ihN rfl) rfl ?_
  refine bjmp (tg := 311) (pc' := 307) rfl (by decide) (by decide) rfl dX3_sameNow_304 rfl (ihN rfl) rfl ?_
  refine bplain (pc' := 308) rfl dX3_sameNow_307 rfl (ihN rfl) rfl ?_
  refine bjmp (tg := 312) (pc' := 311) rfl (by decide) (by decide) rfl dX3_sameNow_308 rfl (ihN rfl) rfl ?_
  exact trivial
theorem bf_X3_sameNow_311 : BOKt mt tX3_sameNow 391 311 b_X3_sameNow_311 := by
  refine bnop1 ?_
  refine bplain (pc' := 312) rfl dX3_sameNow_311 rfl (ihN rfl) rfl ?_
  exact bnop0 rfl (by decide)
theorem bf_X3_sameNow_312 : BOKt mt tX3_sameNow 391 312 b_X3_sameNow_312 := by
  refine bnop1 ?_
  refine bplain (pc' := 314) rfl dX3_sameNow_312 rfl (ihN rfl) rfl ?_
  refine bplain (pc' := 315) rfl dX3_sameNow_314 rfl (ihN rfl) rfl ?_
  refine bthr (pc' := 318) rfl dX3_sameNow_315 rfl (lkf0 q2599 lf_149) (trivial) (ihN rfl) rfl ?_
  refine bplain (pc' := 320) rfl dX3_sameNow_318 rfl (ihN rfl) rfl ?_
  refine bplain (pc' := 321) rfl dX3_sameNow_320 rfl (ihN rfl) rfl ?_
  refine bthr (pc' := 324) rfl dX3_sameNow_321 rfl (lkf0 q2638 lf_197) (trivial) (ihN rfl) rfl ?_
  refine bplain (pc' := 326) rfl dX3_sameNow_324 rfl (ihN rfl) rfl ?_
  refine bplain (pc' := 327) rfl dX3_sameNow_326 rfl (ihN rfl) rfl ?_
  refine bplain (pc' := 328) rfl dX3_sameNow_327 rfl (ihN rfl) rfl ?_
  refine bplain (pc' := 329) rfl dX3_sameNow_328 rfl (ihN rfl) rfl ?_
  refine bthr (pc' := 332) rfl dX3_sameNow_329 rfl (lkf0 q2600 lf_151) (trivial) (ihN rfl) rfl ?_
  refine bplain (pc' := 334) rfl dX3_sameNow_332 rfl (ihN rfl) rfl ?_
  refine bplain (pc' := 335) rfl dX3_sameNow_334 rfl (ihN rfl) rfl ?_
  refine bthr (pc' := 338) rfl dX3_sameNow_335 rfl (lkf0 q2640 lf_201) (trivial) (ihN rfl) rfl ?_
  refine bplain (pc' := 340) rfl dX3_sameNow_338 rfl (ihN rfl) rfl ?_
  refine bplain (pc' := 341) rfl dX3_sameNow_340 rfl (ihN rfl) rfl ?_
  refine bplain (pc' := 342) rfl dX3_sameNow_341 rfl (ihN rfl) rfl ?_
  refine bplain (pc' := 345) rfl dX3_sameNow_342 rfl (ihN rfl) rfl ?_
  refine bjmp (tg := 276) (pc' := 348) rfl (by decide) (by decide) rfl dX3_sameNow_345 rfl (ihN rfl) rfl ?_
  exact trivial
theorem bf_X3_sameNow_348 : BOKt mt tX3_sameNow 391 348 b_X3_sameNow_348 := by
  refine bplain (pc' := 349) rfl dX3_sameNow_348 rfl (ihN rfl) rfl ?_
  refine bplain (pc' := 351) rfl dX3_sameNow_349 rfl (ihN rfl) rfl ?_
  exact bnop0 rfl (by decide)
theorem bf_X3_sameNow_351 : BOKt mt tX3_sameNow 391 351 b_X3_sameNow_351 := by
  refine bnop1 ?_
  refine bplain (pc' := 353) rfl dX3_sameNow_351 rfl (ihN rfl) rfl ?_
  refine bplain (pc' := 355) rfl dX3_sameNow_353 rfl (ihN rfl) rfl ?_
  refine bjmp (tg := 378) (pc' := 358) rfl (by decide) (by decide) rfl dX3_sameNow_355 rfl (ihN rfl) rfl ?_
  refine bplain (pc' := 359) rfl dX3_sameNow_358 rfl (ihN rfl) rfl ?_
  refine bthr (pc' := 362) rfl dX3_sameNow_359 rfl (lkf0 q2633 lf_193) (trivial) (ihN rfl) rfl ?_
  refine bplain (pc' := 364) rfl dX3_sameNow_362 rfl (ihN rfl) rfl ?_
  refine bplain (pc' := 365) rfl dX3_sameNow_364 rfl (ihN rfl) rfl ?_
  refine bthr (pc' := 368) rfl dX3_sameNow_365 rfl (lkf0 q2641 lf_203) (trivial) (ihN rfl) rfl ?_
  refine bplain (pc' := 370) rfl dX3_sameNow_368 rfl (ihN rfl) rfl ?_
  refine bplain (pc' := 371) rfl dX3_sameNow_370 rfl (ihN rfl) rfl ?_
  refine bplain (pc' := 372) rfl dX3_sameNow_371 rfl (ihN rfl) rfl ?_
  refine bplain (pc' := 375) rfl dX3_sameNow_372 rfl (ihN rfl) rfl ?_
  refine bjmp (tg := 351) (pc' := 378) rfl (by decide) (by decide) rfl dX3_sameNow_375 rfl (ihN rfl) rfl ?_
  exact trivial
theorem bf_X3_sameNow_378 : BOKt mt tX3_sameNow 391 378 b_X3_sameNow_378 := by
  refine bplain (pc' := 379) rfl dX3_sameNow_378 rfl (ihN rfl) rfl ?_
  refine bplain (pc' := 381) rfl dX3_sameNow_379 rfl (ihN rfl) rfl ?_
  refine bobj (pc' := 384) rfl dX3_sameNow_381 rfl (⟨lkf0 q2631 lf_543, lkp0 lp_544⟩) (ihN rfl) rfl ?_
  refine bplain (pc' := 385) rfl dX3_sameNow_384 rfl (ihN rfl) rfl ?_
  refine bplain (pc' := 387) rfl dX3_sameNow_385 rfl (ihN rfl) rfl ?_
  refine bobj (pc' := 390) rfl dX3_sameNow_387 rfl (⟨lkf0 q2634 lf_545, lkp0 lp_546⟩) (ihN rfl) rfl ?_
  refine bplain (pc' := 392) rfl dX3_sameNow_390 rfl (ihN rfl) rfl ?_
  refine bjmp (tg := 399) (pc' := 395) rfl (by decide) (by decide) rfl dX3_sameNow_392 rfl (ihN rfl) rfl ?_
  refine bplain (pc' := 396) rfl dX3_sameNow_395 rfl (ihN rfl) rfl ?_
  refine bjmp (tg := 400) (pc' := 399) rfl (by decide) (by decide) rfl dX3_sameNow_396 rfl (ihN rfl) rfl ?_
  exact trivial
theorem bf_X3_sameNow_399 : BOKt mt tX3_sameNow 391 399 b_X3_sameNow_399 := by
  refine bplain (pc' := 400) rfl dX3_sameNow_399 rfl (ihN rfl) rfl ?_
  exact bnop0 rfl (by decide)
theorem bf_X3_sameNow_400 : BOKt mt tX3_sameNow 391 400 b_X3_sameNow_400 := by
  refine bnop1 ?_
  refine bret (pc' := 401) rfl dX3_sameNow_400 rfl (Or.inl ⟨rfl, rfl⟩) (ihN rfl) rfl ?_
  exact trivial
theorem tf_X3_sameNow : ∀ x ∈ tb_X3_sameNow, BOK mt 391 x.1 x.2 := tb_c mt_X3_sameNow bf_X3_sameNow_0 (tb_c mt_X3_sameNow bf_X3_sameNow_15 (tb_c mt_X3_sameNow bf_X3_sameNow_57 (tb_c mt_X3_sameNow bf_X3_sameNow_60 (tb_c mt_X3_sameNow bf_X3_sameNow_87 (tb_c mt_X3_sameNow bf_X3_sameNow_90 (tb_c mt_X3_sameNow bf_X3_sameNow_116 (tb_c mt_X3_sameNow bf_X3_sameNow_125 (tb_c mt_X3_sameNow bf_X3_sameNow_151 (tb_c mt_X3_sameNow bf_X3_sameNow_154 (tb_c mt_X3_sameNow bf_X3_sameNow_196 (tb_c mt_X3_sameNow bf_X3_sameNow_212 (tb_c mt_X3_sameNow bf_X3_sameNow_213 (tb_c mt_X3_sameNow bf_X3_sameNow_218 (tb_c mt_X3_sameNow bf_X3_sameNow_250 (tb_c mt_X3_sameNow bf_X3_sameNow_251 (tb_c mt_X3_sameNow bf_X3_sameNow_273 (tb_c mt_X3_sameNow bf_X3_sameNow_276 (tb_c mt_X3_sameNow bf_X3_sameNow_311 (tb_c mt_X3_sameNow bf_X3_sameNow_312 (tb_c mt_X3_sameNow bf_X3_sameNow_348 (tb_c mt_X3_sameNow bf_X3_sameNow_351 (tb_c mt_X3_sameNow bf_X3_sameNow_378 (tb_c mt_X3_sameNow bf_X3_sameNow_399 (tb_c mt_X3_sameNow bf_X3_sameNow_400 (tb_n)))))))))))))))))))))))))
theorem bf_X3_same_0 : BOKt mt tX3_same 392 0 b_X3_same_0 := by
  refine bplain (pc' := 1) rfl dX3_same_0 rfl (ihN rfl) rfl ?_
  refine bplain (pc' := 2) rfl dX3_same_1 rfl (ihN rfl) rfl ?_
  refine bplain (pc' := 3) rfl dX3_same_2 rfl (ihN rfl) rfl ?_
  refine bplain (pc' := 4) rfl dX3_same_3 rfl (ihN rfl) rfl ?_
  refine bplain (pc' := 6) rfl dX3_same_4 rfl (ihN rfl) rfl ?_
  refine bcall (pc' := 9) rfl dX3_same_6 rfl (trivial) (lcv (n := 4) rfl (pvc (lfv mt_X3_mayMix ⟨by decide, by decide⟩ mok_X3_mayMix ⟨by decide, by decide⟩ ⟨q3132, ln_453, Or.inl ⟨q3130, Or.inl qs122⟩⟩) (trivial)) (Or.inl (by decide))) (ihN rfl) rfl ?_
  refine bplain (pc' := 11) rfl dX3_same_9 rfl (ihN rfl) rfl ?_
  refine bplain (pc' := 13) rfl dX3_same_11 rfl (ihN rfl) rfl ?_
  refine bjmp (tg := 21) (pc' := 16) rfl (by decide) (by decide) rfl dX3_same_13 rfl (ihN rfl) rfl ?_
  refine bplain (pc' := 18) rfl dX3_same_16 rfl (ihN rfl) rfl ?_
  refine bjmp (tg := 28) (pc' := 21) rfl (by decide) (by decide) rfl dX3_same_18 rfl (ihN rfl) rfl ?_
  exact trivial
theorem bf_X3_same_21 : BOKt mt tX3_same 392 21 b_X3_same_21 := by
  refine bplain (pc' := 22) rfl dX3_same_21 rfl (ihN rfl) rfl ?_
  refine bplain (pc' := 23) rfl dX3_same_22 rfl (ihN rfl) rfl ?_
  refine bplain (pc' := 24) rfl dX3_same_23 rfl (ihN rfl) rfl ?_
  refine bplain (pc' := 25) rfl dX3_same_24 rfl (ihN rfl) rfl ?_
  refine bcall (pc' := 28) rfl dX3_same_25 rfl (trivial) (lcv (n := 3) rfl (pvc (lfv mt_X3_sameNow ⟨by decide, by decide⟩ mok_X3_sameNow ⟨by decide, by decide⟩ ⟨q3160, ln_255, Or.inl ⟨q3158, Or.inl qs128⟩⟩) (trivial)) (Or.inl (by decide))) (ihN rfl) rfl ?_
  exact bnop0 rfl (by decide)
theorem bf_X3_same_28 : BOKt mt tX3_same 392 28 b_X3_same_28 := by
  refine bnop1 ?_
  refine bret (pc' := 29) rfl dX3_same_28 rfl (Or.inl ⟨rfl, rfl⟩) (ihN rfl) rfl ?_
  exact trivial
theorem tf_X3_same : ∀ x ∈ tb_X3_same, BOK mt 392 x.1 x.2 := tb_c mt_X3_same bf_X3_same_0 (tb_c mt_X3_same bf_X3_same_21 (tb_c mt_X3_same bf_X3_same_28 (tb_n)))
theorem bf_X0_faults_0 : BOKt mt tX0_faults 393 0 b_X0_faults_0 := by
  refine bplain (pc' := 1) rfl dX0_faults_0 rfl (ihN rfl) rfl ?_
  refine bplain (pc' := 2) rfl dX0_faults_1 rfl (ihN rfl) rfl ?_
  refine bplain (pc' := 3) rfl dX0_faults_2 rfl (ihN rfl) rfl ?_
  refine bobj (pc' := 6) rfl dX0_faults_3 rfl (lkq0 lc_336 q1775) (ihN rfl) rfl ?_
  refine bcall (pc' := 9) rfl dX0_faults_6 rfl (trivial) (lcs (l := q1214) mt_X0_in ⟨by decide, by decide⟩ mok_X0_in rfl ln_210 (Or.inl q1213)) (ihN rfl) rfl ?_
  refine bjmp (tg := 21) (pc' := 12) rfl (by decide) (by decide) rfl dX0_faults_9 rfl (ihN rfl) rfl ?_
  refine bplain (pc' := 13) rfl dX0_faults_12 rfl (ihN rfl) rfl ?_
  refine bthr (pc' := 16) rfl dX0_faults_13 rfl (lkf0 q1132 lf_135) (trivial) (ihN rfl) rfl ?_
  refine bplain (pc' := 17) rfl dX0_faults_16 rfl (ihN rfl) rfl ?_
  refine bplain (pc' := 18) rfl dX0_faults_17 rfl (ihN rfl) rfl ?_
  refine bjmp (tg := 23) (pc' := 21) rfl (by decide) (by decide) rfl dX0_faults_18 rfl (ihN rfl) rfl ?_
  exact trivial
theorem bf_X0_faults_21 : BOKt mt tX0_faults 393 21 b_X0_faults_21 := by
  refine bplain (pc' := 23) rfl dX0_faults_21 rfl (ihN rfl) rfl ?_
  exact bnop0 rfl (by decide)
theorem bf_X0_faults_23 : BOKt mt tX0_faults 393 23 b_X0_faults_23 := by
  refine bnop1 ?_
  refine bret (pc' := 24) rfl dX0_faults_23 rfl (Or.inl ⟨rfl, rfl⟩) (ihN rfl) rfl ?_
  exact trivial
theorem tf_X0_faults : ∀ x ∈ tb_X0_faults, BOK mt 393 x.1 x.2 := tb_c mt_X0_faults bf_X0_faults_0 (tb_c mt_X0_faults bf_X0_faults_21 (tb_c mt_X0_faults bf_X0_faults_23 (tb_n)))
theorem bf_X3_faults_0 : BOKt mt tX3_faults 394 0 b_X3_faults_0 := by
  refine bplain (pc' := 1) rfl dX3_faults_0 rfl (ihN rfl) rfl ?_
  refine bplain (pc' := 2) rfl dX3_faults_1 rfl (ihN rfl) rfl ?_
  refine bplain (pc' := 3) rfl dX3_faults_2 rfl (ihN rfl) rfl ?_
  refine bcall (pc' := 6) rfl dX3_faults_3 rfl (trivial) (lcs (l := q2747) mt_X3_in ⟨by decide, by decide⟩ mok_X3_in rfl ln_226 (Or.inl q2746)) (ihN rfl) rfl ?_
  refine bjmp (tg := 18) (pc' := 9) rfl (by decide) (by decide) rfl dX3_faults_6 rfl (ihN rfl) rfl ?_
  refine bplain (pc' := 10) rfl dX3_faults_9 rfl (ihN rfl) rfl ?_
  refine bthr (pc' := 13) rfl dX3_faults_10 rfl (lkf0 q2632 lf_191) (trivial) (ihN rfl) rfl ?_
  refine bplain (pc' := 14) rfl dX3_faults_13 rfl (ihN rfl) rfl ?_
  refine bplain (pc' := 15) rfl dX3_faults_14 rfl (ihN rfl) rfl ?_
  refine bjmp (tg := 20) (pc' := 18) rfl (by decide) (by decide) rfl dX3_faults_15 rfl (ihN rfl) rfl ?_
  exact trivial
theorem bf_X3_faults_18 : BOKt mt tX3_faults 394 18 b_X3_faults_18 := by
  refine bplain (pc' := 20) rfl dX3_faults_18 rfl (ihN rfl) rfl ?_
  exact bnop0 rfl (by decide)
theorem bf_X3_faults_20 : BOKt mt tX3_faults 394 20 b_X3_faults_20 := by
  refine bnop1 ?_
  refine bret (pc' := 21) rfl dX3_faults_20 rfl (Or.inl ⟨rfl, rfl⟩) (ihN rfl) rfl ?_
  exact trivial
theorem tf_X3_faults : ∀ x ∈ tb_X3_faults, BOK mt 394 x.1 x.2 := tb_c mt_X3_faults bf_X3_faults_0 (tb_c mt_X3_faults bf_X3_faults_18 (tb_c mt_X3_faults bf_X3_faults_20 (tb_n)))
theorem bf_X0_endedBy_0 : BOKt mt tX0_endedBy 395 0 b_X0_endedBy_0 := by
  refine bplain (pc' := 1) rfl dX0_endedBy_0 rfl (ihN rfl) rfl ?_
  refine bplain (pc' := 2) rfl dX0_endedBy_1 rfl (ihN rfl) rfl ?_
  refine bthr (pc' := 5) rfl dX0_endedBy_2 rfl (lkf0 q1134 lf_539) (trivial) (ihN rfl) rfl ?_
  refine bjmp (tg := 17) (pc' := 8) rfl (by decide) (by decide) rfl dX0_endedBy_5 rfl (ihN rfl) rfl ?_
  refine bplain (pc' := 9) rfl dX0_endedBy_8 rfl (ihN rfl) rfl ?_
  refine bthr (pc' := 12) rfl dX0_endedBy_9 rfl (lkf0 q1133 lf_137) (trivial) (ihN rfl) rfl ?_
  refine bplain (pc' := 13) rfl dX0_endedBy_12 rfl (ihN rfl) rfl ?_
  refine bplain (pc' := 14) rfl dX0_endedBy_13 rfl (ihN rfl) rfl ?_
  refine bjmp (tg := 18) (pc' := 17) rfl (by decide) (by decide) rfl dX0_endedBy_14 rfl (ihN rfl) rfl ?_
  exact trivial
theorem bf_X0_endedBy_17 : BOKt mt tX0_endedBy 395 17 b_X0_endedBy_17 := by
  refine bplain (pc' := 18) rfl dX0_endedBy_17 rfl (ihN rfl) rfl ?_
  exact bnop0 rfl (by decide)
theorem bf_X0_endedBy_18 : BOKt mt tX0_endedBy 395 18 b_X0_endedBy_18 := by
  refine bnop1 ?_
  refine bret (pc' := 19) rfl dX0_endedBy_18 rfl (Or.inl ⟨rfl, rfl⟩) (ihN rfl) rfl ?_
  exact trivial
theorem tf_X0_endedBy : ∀ x ∈ tb_X0_endedBy, BOK mt 395 x.1 x.2 := tb_c mt_X0_endedBy bf_X0_endedBy_0 (tb_c mt_X0_endedBy bf_X0_endedBy_17 (tb_c mt_X0_endedBy bf_X0_endedBy_18 (tb_n)))
theorem bf_X0_ended_0 : BOKt mt tX0_ended 396 0 b_X0_ended_0 := by
  refine bplain (pc' := 1) rfl dX0_ended_0 rfl (ihN rfl) rfl ?_
  refine bplain (pc' := 2) rfl dX0_ended_1 rfl (ihN rfl) rfl ?_
  refine bplain (pc' := 3) rfl dX0_ended_2 rfl (ihN rfl) rfl ?_
  refine bobj (pc' := 6) rfl dX0_ended_3 rfl (lkq0 lc_572 q2551) (ihN rfl) rfl ?_
  refine bcall (pc' := 9) rfl dX0_ended_6 rfl (trivial) (lcs (l := q1214) mt_X0_in ⟨by decide, by decide⟩ mok_X0_in rfl ln_210 (Or.inl q1213)) (ihN rfl) rfl ?_
  refine bjmp (tg := 20) (pc' := 12) rfl (by decide) (by decide) rfl dX0_ended_9 rfl (ihN rfl) rfl ?_
  refine bplain (pc' := 13) rfl dX0_ended_12 rfl (ihN rfl) rfl ?_
  refine bplain (pc' := 14) rfl dX0_ended_13 rfl (ihN rfl) rfl ?_
  refine bcall (pc' := 17) rfl dX0_ended_14 rfl (trivial) (lcv (n := 1) rfl (pvc (lfv mt_X0_endedBy ⟨by decide, by decide⟩ mok_X0_endedBy ⟨by decide, by decide⟩ ⟨q2554, ln_225, Or.inl ⟨q2552, Or.inl qs57⟩⟩) (trivial)) (Or.inl (by decide))) (ihN rfl) rfl ?_
  refine bjmp (tg := 22) (pc' := 20) rfl (by decide) (by decide) rfl dX0_ended_17 rfl (ihN rfl) rfl ?_
  exact trivial
theorem bf_X0_ended_20 : BOKt mt tX0_ended 396 20 b_X0_ended_20 := by
  refine bplain (pc' := 22) rfl dX0_ended_20 rfl (ihN rfl) rfl ?_
  exact bnop0 rfl (by decide)
theorem bf_X0_ended_22 : BOKt mt tX0_ended 396 22 b_X0_ended_22 := by
  refine bnop1 ?_
  refine bret (pc' := 23) rfl dX0_ended_22 rfl (Or.inl ⟨rfl, rfl⟩) (ihN rfl) rfl ?_
  exact trivial
theorem tf_X0_ended : ∀ x ∈ tb_X0_ended, BOK mt 396 x.1 x.2 := tb_c mt_X0_ended bf_X0_ended_0 (tb_c mt_X0_ended bf_X0_ended_20 (tb_c mt_X0_ended bf_X0_ended_22 (tb_n)))
theorem bf_X3_ended_0 : BOKt mt tX3_ended 397 0 b_X3_ended_0 := by
  refine bplain (pc' := 1) rfl dX3_ended_0 rfl (ihN rfl) rfl ?_
  refine bplain (pc' := 2) rfl dX3_ended_1 rfl (ihN rfl) rfl ?_
  refine bplain (pc' := 4) rfl dX3_ended_2 rfl (ihN rfl) rfl ?_
  refine bcall (pc' := 7) rfl dX3_ended_4 rfl (trivial) (lcs (l := q2747) mt_X3_in ⟨by decide, by decide⟩ mok_X3_in rfl ln_226 (Or.inl q2746)) (ihN rfl) rfl ?_
  refine bjmp (tg := 15) (pc' := 10) rfl (by decide) (by decide) rfl dX3_ended_7 rfl (ihN rfl) rfl ?_
  refine bplain (pc' := 12) rfl dX3_ended_10 rfl (ihN rfl) rfl ?_
  refine bjmp (tg := 33) (pc' := 15) rfl (by decide) (by decide) rfl dX3_ended_12 rfl (ihN rfl) rfl ?_
  exact trivial
theorem bf_X3_ended_15 : BOKt mt tX3_ended 397 15 b_X3_ended_15 := by
  refine bplain (pc' := 16) rfl dX3_ended_15 rfl (ihN rfl) rfl ?_
  refine bplain (pc' := 17) rfl dX3_ended_16 rfl (ihN rfl) rfl ?_
  refine bthr (pc' := 20) rfl dX3_ended_17 rfl (lkf0 q2634 lf_545) (trivial) (ihN rfl) rfl ?_
  refine bjmp (tg := 32) (pc' := 23) rfl (by decide) (by decide) rfl dX3_ended_20 rfl (ihN rfl) rfl ?_
  refine bplain (pc' := 24) rfl dX3_ended_23 rfl (ihN rfl) rfl ?_
  refine bthr (pc' := 27) rfl dX3_ended_24 rfl (lkf0 q2633 lf_193) (trivial) (ihN rfl) rfl ?_
  refine bplain (pc' := 28) rfl dX3_ended_27 rfl (ihN rfl) rfl ?_
  refine bplain (pc' := 29) rfl dX3_ended_28 rfl (ihN rfl) rfl ?_
  refine bjmp (tg := 33) (pc' := 32) rfl (by decide) (by decide) rfl dX3_ended_29 rfl (ihN rfl) rfl ?_
  exact trivial
theorem bf_X3_ended_32 : BOKt mt tX3_ended 397 32 b_X3_ended_32 := by
  refine bplain (pc' := 33) rfl dX3_ended_32 rfl (ihN rfl) rfl ?_
  exact bnop0 rfl (by decide)
theorem bf_X3_ended_33 : BOKt mt tX3_ended 397 33 b_X3_ended_33 := by
  refine bnop1 ?_
  refine bret (pc' := 34) rfl dX3_ended_33 rfl (Or.inl ⟨rfl, rfl⟩) (ihN rfl) rfl ?_
  exact trivial
theorem tf_X3_ended : ∀ x ∈ tb_X3_ended, BOK mt 397 x.1 x.2 := tb_c mt_X3_ended bf_X3_ended_0 (tb_c mt_X3_ended bf_X3_ended_15 (tb_c mt_X3_ended bf_X3_ended_32 (tb_c mt_X3_ended bf_X3_ended_33 (tb_n))))
theorem bf_X0_writer_0 : BOKt mt tX0_writer 398 0 b_X0_writer_0 := by
  refine bplain (pc' := 1) rfl dX0_writer_0 rfl (ihP (fun h => nomatch h) rfl) rfl ?_
  refine bcall (pc' := 4) rfl dX0_writer_1 rfl (trivial) (lcs (l := q1210) mt_X0_isRow ⟨by decide, by decide⟩ mok_X0_isRow rfl ln_222 (Or.inl q1209)) (ihH (fun h => nomatch h) (hokN (by decide +kernel))) rfl ?_
  refine bjmp (tg := 10) (pc' := 7) rfl (by decide) (by decide) rfl dX0_writer_4 rfl (ihP (fun h => nomatch h) rfl) rfl ?_
  refine bplain (pc' := 9) rfl dX0_writer_7 rfl (ihP (fun h => nomatch h) rfl) rfl ?_
  refine bret (pc' := 10) rfl dX0_writer_9 rfl (Or.inl ⟨rfl, rfl⟩) (ihP (fun h => nomatch h) rfl) rfl ?_
  exact trivial
theorem bf_X0_writer_10 : BOKt mt tX0_writer 398 10 b_X0_writer_10 := by
  refine bplain (pc' := 11) rfl dX0_writer_10 rfl (ihP (fun h => nomatch h) rfl) rfl ?_
  refine bthr (pc' := 14) rfl dX0_writer_11 rfl (lkf0 q1112 lf_113) (trivial) (ihP (fun h => nomatch h) rfl) rfl ?_
  refine bplain (pc' := 15) rfl dX0_writer_14 rfl (ihP (fun h => nomatch h) rfl) rfl ?_
  refine bplain (pc' := 16) rfl dX0_writer_15 rfl (ihP (fun h => nomatch h) rfl) rfl ?_
  refine bthr (pc' := 19) rfl dX0_writer_16 rfl (lkf1 (host := "StrideTurns") (by decide) q1234 lf_218) (lkf2 (host := "StrideTurns") q1234 lf_218) (ihH (fun h => nomatch h) (hokH (all6 (hk1s (k := 1) (pre := (tableOf [(10, 21, 22, 124), (10, 21, 29, 132)]).take 0) (suf := (tableOf [(10, 21, 22, 124), (10, 21, 29, 132)]).drop 1) (name := "java/lang/NullPointerException") rfl (trivial) rfl rfl q1254 q1276 (by decide) rfl) (hk1n (⟨xps_x (nm := "java/lang/NullPointerException") rfl q1254 (List.mem_of_getElem? (i := 28) rfl), ⟨xps_x (nm := "java/lang/ArrayIndexOutOfBoundsException") rfl q1297 (List.mem_of_getElem? (i := 29) rfl), trivial⟩⟩)) (hk1s (k := 3) (pre := (tableOf [(10, 21, 22, 124), (10, 21, 29, 132)]).take 1) (suf := (tableOf [(10, 21, 22, 124), (10, 21, 29, 132)]).drop 2) (name := "java/lang/ArrayIndexOutOfBoundsException") rfl (⟨xps_x (nm := "java/lang/NullPointerException") rfl q1254 (List.mem_of_getElem? (i := 34) rfl), trivial⟩) rfl rfl q1297 q1312 (by decide) rfl) (hk1n (⟨xps_x (nm := "java/lang/NullPointerException") rfl q1254 (List.mem_of_getElem? (i := 39) rfl), ⟨xps_x (nm := "java/lang/ArrayIndexOutOfBoundsException") rfl q1297 (List.mem_of_getElem? (i := 41) rfl), trivial⟩⟩)) (hk1n (⟨xps_x (nm := "java/lang/NullPointerException") rfl q1254 (List.mem_of_getElem? (i := 45) rfl), ⟨xps_x (nm := "java/lang/ArrayIndexOutOfBoundsException") rfl q1297 (List.mem_of_getElem? (i := 47) rfl), trivial⟩⟩)) (hk1n (⟨xps_x (nm := "java/lang/NullPointerException") rfl q1254 (List.mem_of_getElem? (i := 51) rfl), ⟨xps_x (nm := "java/lang/ArrayIndexOutOfBoundsException") rfl q1297 (List.mem_of_getElem? (i := 53) rfl), trivial⟩⟩))))) rfl ?_
  refine bplain (pc' := 20) rfl dX0_writer_19 rfl (ihP (fun h => nomatch h) rfl) rfl ?_
  refine bplain (pc' := 21) rfl dX0_writer_20 rfl (ihH (fun h => nomatch h) (hokH (all6 (hk1s (k := 1) (pre := (tableOf [(10, 21, 22, 124), (10, 21, 29, 132)]).take 0) (suf := (tableOf [(10, 21, 22, 124), (10, 21, 29, 132)]).drop 1) (name := "java/lang/NullPointerException") rfl (trivial) rfl rfl q1254 q1276 (by decide) rfl) (hk1n (⟨xps_x (nm := "java/lang/NullPointerException") rfl q1254 (List.mem_of_getElem? (i := 28) rfl), ⟨xps_x (nm := "java/lang/ArrayIndexOutOfBoundsException") rfl q1297 (List.mem_of_getElem? (i := 29) rfl), trivial⟩⟩)) (hk1s (k := 3) (pre := (tableOf [(10, 21, 22, 124), (10, 21, 29, 132)]).take 1) (suf := (tableOf [(10, 21, 22, 124), (10, 21, 29, 132)]).drop 2) (name := "java/lang/ArrayIndexOutOfBoundsException") rfl (⟨xps_x (nm := "java/lang/NullPointerException") rfl q1254 (List.mem_of_getElem? (i := 34) rfl), trivial⟩) rfl rfl q1297 q1312 (by decide) rfl) (hk1n (⟨xps_x (nm := "java/lang/NullPointerException") rfl q1254 (List.mem_of_getElem? (i := 39) rfl), ⟨xps_x (nm := "java/lang/ArrayIndexOutOfBoundsException") rfl q1297 (List.mem_of_getElem? (i := 41) rfl), trivial⟩⟩)) (hk1n (⟨xps_x (nm := "java/lang/NullPointerException") rfl q1254 (List.mem_of_getElem? (i := 45) rfl), ⟨xps_x (nm := "java/lang/ArrayIndexOutOfBoundsException") rfl q1297 (List.mem_of_getElem? (i := 47) rfl), trivial⟩⟩)) (hk1n (⟨xps_x (nm := "java/lang/NullPointerException") rfl q1254 (List.mem_of_getElem? (i := 51) rfl), ⟨xps_x (nm := "java/lang/ArrayIndexOutOfBoundsException") rfl q1297 (List.mem_of_getElem? (i := 53) rfl), trivial⟩⟩))))) rfl ?_
  refine bret (pc' := 22) rfl dX0_writer_21 rfl (Or.inl ⟨rfl, rfl⟩) (ihP (fun h => nomatch h) rfl) rfl ?_
  exact trivial
theorem bf_X0_writer_22 : BOKt mt tX0_writer 398 22 b_X0_writer_22 := by
  refine bplain (pc' := 23) rfl dX0_writer_22 rfl (ihP (fun h => nomatch h) rfl) rfl ?_
  refine bplain (pc' := 24) rfl dX0_writer_23 rfl (ihP (fun h => nomatch h) rfl) rfl ?_
  refine bplain (pc' := 25) rfl dX0_writer_24 rfl (ihP (fun h => nomatch h) rfl) rfl ?_
  refine bcall (pc' := 28) rfl dX0_writer_25 rfl (trivial) (lcv (n := 1) rfl (pvc (lfv mt_X0_finds ⟨by decide, by decide⟩ mok_X0_finds ⟨by decide, by decide⟩ ⟨q1248, ln_225, Or.inl ⟨q1246, Or.inl qs4⟩⟩) (trivial)) (Or.inl (by decide))) (ihH (fun h => nomatch h) (hokN (by decide +kernel))) rfl ?_
  refine bret (pc' := 29) rfl dX0_writer_28 rfl (Or.inl ⟨rfl, rfl⟩) (ihP (fun h => nomatch h) rfl) rfl ?_
  exact trivial
theorem bf_X0_writer_29 : BOKt mt tX0_writer 398 29 b_X0_writer_29 := by
  refine bplain (pc' := 30) rfl dX0_writer_29 rfl (ihP (fun h => nomatch h) rfl) rfl ?_
  refine bplain (pc' := 31) rfl dX0_writer_30 rfl (ihP (fun h => nomatch h) rfl) rfl ?_
  refine bplain (pc' := 32) rfl dX0_writer_31 rfl (ihP (fun h => nomatch h) rfl) rfl ?_
  refine bcall (pc' := 35) rfl dX0_writer_32 rfl (trivial) (lcv (n := 1) rfl (pvc (lfv mt_X0_finds ⟨by decide, by decide⟩ mok_X0_finds ⟨by decide, by decide⟩ ⟨q1248, ln_225, Or.inl ⟨q1246, Or.inl qs4⟩⟩) (trivial)) (Or.inl (by decide))) (ihH (fun h => nomatch h) (hokN (by decide +kernel))) rfl ?_
  refine bret (pc' := 36) rfl dX0_writer_35 rfl (Or.inl ⟨rfl, rfl⟩) (ihP (fun h => nomatch h) rfl) rfl ?_
  exact trivial
theorem tf_X0_writer : ∀ x ∈ tb_X0_writer, BOK mt 398 x.1 x.2 := tb_c mt_X0_writer bf_X0_writer_0 (tb_c mt_X0_writer bf_X0_writer_10 (tb_c mt_X0_writer bf_X0_writer_22 (tb_c mt_X0_writer bf_X0_writer_29 (tb_n))))
theorem bf_X3_writer_0 : BOKt mt tX3_writer 399 0 b_X3_writer_0 := by
  refine bplain (pc' := 1) rfl dX3_writer_0 rfl (ihN rfl) rfl ?_
  refine bcall (pc' := 4) rfl dX3_writer_1 rfl (trivial) (lcs (l := q2744) mt_X3_isRow ⟨by decide, by decide⟩ mok_X3_isRow rfl ln_222 (Or.inl q2743)) (ihN rfl) rfl ?_
  refine bjmp (tg := 10) (pc' := 7) rfl (by decide) (by decide) rfl dX3_writer_4 rfl (ihN rfl) rfl ?_
  refine bplain (pc' := 9) rfl dX3_writer_7 rfl (ihN rfl) rfl ?_
  refine bret (pc' := 10) rfl dX3_writer_9 rfl (Or.inl ⟨rfl, rfl⟩) (ihN rfl) rfl ?_
  exact trivial
theorem bf_X3_writer_10 : BOKt mt tX3_writer 399 10 b_X3_writer_10 := by
  refine bplain (pc' := 11) rfl dX3_writer_10 rfl (ihN rfl) rfl ?_
  refine bplain (pc' := 12) rfl dX3_writer_11 rfl (ihN rfl) rfl ?_
  refine bplain (pc' := 13) rfl dX3_writer_12 rfl (ihN rfl) rfl ?_
  refine bcall (pc' := 16) rfl dX3_writer_13 rfl (trivial) (lcv (n := 2) rfl (pvc (lfv mt_X3_lacks ⟨by decide, by decide⟩ mok_X3_lacks ⟨by decide, by decide⟩ ⟨q2773, ln_252, Or.inl ⟨q2771, Or.inl qs64⟩⟩) (trivial)) (Or.inl (by decide))) (ihN rfl) rfl ?_
  refine bplain (pc' := 17) rfl dX3_writer_16 rfl (ihN rfl) rfl ?_
  refine bplain (pc' := 18) rfl dX3_writer_17 rfl (ihN rfl) rfl ?_
  refine bjmp (tg := 29) (pc' := 21) rfl (by decide) (by decide) rfl dX3_writer_18 rfl (ihN rfl) rfl ?_
  refine bplain (pc' := 22) rfl dX3_writer_21 rfl (ihN rfl) rfl ?_
  refine bplain (pc' := 23) rfl dX3_writer_22 rfl (ihN rfl) rfl ?_
  refine bcall (pc' := 26) rfl dX3_writer_23 rfl (trivial) (lcv (n := 1) rfl (pvc (lfv mt_X3_meets ⟨by decide, by decide⟩ mok_X3_meets ⟨by decide, by decide⟩ ⟨q2751, ln_225, Or.inl ⟨q2749, Or.inl qs63⟩⟩) (trivial)) (Or.inl (by decide))) (ihN rfl) rfl ?_
  refine bjmp (tg := 40) (pc' := 29) rfl (by decide) (by decide) rfl dX3_writer_26 rfl (ihN rfl) rfl ?_
  exact trivial
theorem bf_X3_writer_29 : BOKt mt tX3_writer 399 29 b_X3_writer_29 := by
  refine bplain (pc' := 30) rfl dX3_writer_29 rfl (ihN rfl) rfl ?_
  refine bthr (pc' := 33) rfl dX3_writer_30 rfl (lkf0 q2600 lf_151) (trivial) (ihN rfl) rfl ?_
  refine bplain (pc' := 35) rfl dX3_writer_33 rfl (ihN rfl) rfl ?_
  refine bplain (pc' := 36) rfl dX3_writer_35 rfl (ihN rfl) rfl ?_
  refine bplain (pc' := 37) rfl dX3_writer_36 rfl (ihN rfl) rfl ?_
  refine bplain (pc' := 38) rfl dX3_writer_37 rfl (ihN rfl) rfl ?_
  refine bplain (pc' := 39) rfl dX3_writer_38 rfl (ihN rfl) rfl ?_
  refine bplain (pc' := 40) rfl dX3_writer_39 rfl (ihN rfl) rfl ?_
  exact bnop0 rfl (by decide)
theorem bf_X3_writer_40 : BOKt mt tX3_writer 399 40 b_X3_writer_40 := by
  refine bnop1 ?_
  refine bret (pc' := 41) rfl dX3_writer_40 rfl (Or.inl ⟨rfl, rfl⟩) (ihN rfl) rfl ?_
  exact trivial
theorem tf_X3_writer : ∀ x ∈ tb_X3_writer, BOK mt 399 x.1 x.2 := tb_c mt_X3_writer bf_X3_writer_0 (tb_c mt_X3_writer bf_X3_writer_10 (tb_c mt_X3_writer bf_X3_writer_29 (tb_c mt_X3_writer bf_X3_writer_40 (tb_n))))
theorem bf_X0_serialNow_0 : BOKt mt tX0_serialNow 400 0 b_X0_serialNow_0 := by
  refine bplain (pc' := 1) rfl dX0_serialNow_0 rfl (ihN rfl) rfl ?_
  refine bcall (pc' := 4) rfl dX0_serialNow_1 rfl (trivial) (lcv (n := 0) rfl (pvc (lfv mt_X0_knows ⟨by decide, by decide⟩ mok_X0_knows ⟨by decide, by decide⟩ ⟨q2223, ln_0, Or.inl ⟨q2221, Or.inl qs24⟩⟩) (trivial)) (Or.inl (by decide))) (ihN rfl) rfl ?_
  refine bplain (pc' := 5) rfl dX0_serialNow_4 rfl (ihN rfl) rfl ?_
  refine bcall (pc' := 8) rfl dX0_serialNow_5 rfl (trivial) (lcv (n := 0) rfl (pvc (lfv mt_X0_serialRows ⟨by decide, by decide⟩ mok_X0_serialRows ⟨by decide, by decide⟩ ⟨q2480, ln_40, Or.inl ⟨q2478, Or.inl qs45⟩⟩) (trivial)) (Or.inl (by decide))) (ihN rfl) rfl ?_
  refine bret (pc' := 9) rfl dX0_serialNow_8 rfl (Or.inl ⟨rfl, rfl⟩) (ihN rfl) rfl ?_
  exact trivial
theorem tf_X0_serialNow : ∀ x ∈ tb_X0_serialNow, BOK mt 400 x.1 x.2 := tb_c mt_X0_serialNow bf_X0_serialNow_0 (tb_n)
theorem bf_X0_missing_0 : BOKt mt tX0_missing 401 0 b_X0_missing_0 := by
  refine bplain (pc' := 1) rfl dX0_missing_0 rfl (ihN rfl) rfl ?_
  refine bplain (pc' := 2) rfl dX0_missing_1 rfl (ihN rfl) rfl ?_
  refine bplain (pc' := 3) rfl dX0_missing_2 rfl (ihN rfl) rfl ?_
  refine bthr (pc' := 6) rfl dX0_missing_3 rfl (lkf0 q1112 lf_113) (trivial) (ihN rfl) rfl ?_
  refine bplain (pc' := 7) rfl dX0_missing_6 rfl (ihN rfl) rfl ?_
  refine bplain (pc' := 8) rfl dX0_missing_7 rfl (ihN rfl) rfl ?_
  refine bplain (pc' := 9) rfl dX0_missing_8 rfl (ihN rfl) rfl ?_
  refine bplain (pc' := 10) rfl dX0_missing_9 rfl (ihN rfl) rfl ?_
  refine bplain (pc' := 11) rfl dX0_missing_10 rfl (ihN rfl) rfl ?_
  refine bplain (pc' := 13) rfl dX0_missing_11 rfl (ihN rfl) rfl ?_
  exact bnop0 rfl (by decide)
theorem bf_X0_missing_13 : BOKt mt tX0_missing 401 13 b_X0_missing_13 := by
  refine bnop1 ?_
  refine bplain (pc' := 15) rfl dX0_missing_13 rfl (ihN rfl) rfl ?_
  refine bplain (pc' := 16) rfl dX0_missing_15 rfl (ihN rfl) rfl ?_
  refine bjmp (tg := 44) (pc' := 19) rfl (by decide) (by decide) rfl dX0_missing_16 rfl (ihN rfl) rfl ?_
  refine bplain (pc' := 20) rfl dX0_missing_19 rfl (ihN rfl) rfl ?_
  refine bplain (pc' := 22) rfl dX0_missing_20 rfl (ihN rfl) rfl ?_
  refine bplain (pc' := 23) rfl dX0_missing_22 rfl (ihN rfl) rfl ?_
  refine bplain (pc' := 25) rfl dX0_missing_23 rfl (ihN rfl) rfl ?_
  refine bplain (pc' := 26) rfl dX0_missing_25 rfl (ihN rfl) rfl ?_
  refine bplain (pc' := 28) rfl dX0_missing_26 rfl (ihN rfl) rfl ?_
  refine bjmp (tg := 35) (pc' := 31) rfl (by decide) (by decide) rfl dX0_missing_28 rfl (ihN rfl) rfl ?_
  refine bplain (pc' := 32) rfl dX0_missing_31 rfl (ihN rfl) rfl ?_
  refine bjmp (tg := 36) (pc' := 35) rfl (by decide) (by decide) rfl dX0_missing_32 rfl (ihN rfl) rfl ?_
  exact trivial
theorem bf_X0_missing_35 : BOKt mt tX0_missing 401 35 b_X0_missing_35 := by
  refine bplain (pc' := 36) rfl dX0_missing_35 rfl (ihN rfl) rfl ?_
  exact bnop0 rfl (by decide)
theorem bf_X0_missing_36 : BOKt mt tX0_missing 401 36 b_X0_missing_36 := by
  refine bnop1 ?_
  refine bplain (pc' := 37) rfl dX0_missing_36 rfl (ihN rfl) rfl ?_
  refine bplain (pc' := 38) rfl dX0_missing_37 rfl (ihN rfl) rfl ?_
  refine bplain (pc' := 41) rfl dX0_missing_38 rfl (ihN rfl) rfl ?_
  refine bjmp (tg := 13) (pc' := 44) rfl (by decide) (by decide) rfl dX0_missing_41 rfl (ihN rfl) rfl ?_
  exact trivial
theorem bf_X0_missing_44 : BOKt mt tX0_missing 401 44 b_X0_missing_44 := by
  refine bplain (pc' := 45) rfl dX0_missing_44 rfl (ihN rfl) rfl ?_
  refine bret (pc' := 46) rfl dX0_missing_45 rfl (Or.inl ⟨rfl, rfl⟩) (ihN rfl) rfl ?_
  exact trivial
theorem tf_X0_missing : ∀ x ∈ tb_X0_missing, BOK mt 401 x.1 x.2 := tb_c mt_X0_missing bf_X0_missing_0 (tb_c mt_X0_missing bf_X0_missing_13 (tb_c mt_X0_missing bf_X0_missing_35 (tb_c mt_X0_missing bf_X0_missing_36 (tb_c mt_X0_missing bf_X0_missing_44 (tb_n)))))
theorem bf_X0_count_0 : BOKt mt tX0_count 402 0 b_X0_count_0 := by
  refine bplain (pc' := 1) rfl dX0_count_0 rfl (ihN rfl) rfl ?_
  exact bsw rfl dX0_count_1 (swt (by decide) (by decide) (by decide) (by decide) (by decide +kernel) (by decide +kernel)) (by decide +kernel) (ihN rfl)
theorem bf_X0_count_52 : BOKt mt tX0_count 402 52 b_X0_count_52 := by
  refine bplain (pc' := 53) rfl dX0_count_52 rfl (ihN rfl) rfl ?_
  refine bthr (pc' := 56) rfl dX0_count_53 rfl (lkf0 q1118 lf_270) (trivial) (ihN rfl) rfl ?_
  refine bret (pc' := 57) rfl dX0_count_56 rfl (Or.inl ⟨rfl, rfl⟩) (ihN rfl) rfl ?_
  exact trivial
theorem bf_X0_count_57 : BOKt mt tX0_count 402 57 b_X0_count_57 := by
  refine bplain (pc' := 58) rfl dX0_count_57 rfl (ihN rfl) rfl ?_
  refine bthr (pc' := 61) rfl dX0_count_58 rfl (lkf0 q1115 lf_116) (trivial) (ihN rfl) rfl ?_
  refine bcall (pc' := 64) rfl dX0_count_61 rfl (trivial) (lcv (n := 0) rfl (pvc (lfv mt_J20_size ⟨by decide, by decide⟩ mok_J20_size ⟨by decide, by decide⟩ ⟨q1648, ln_40, Or.inl ⟨q1647, Or.inl q1649⟩⟩) (trivial)) (Or.inl (by decide))) (ihN rfl) rfl ?_
  refine bret (pc' := 65) rfl dX0_count_64 rfl (Or.inl ⟨rfl, rfl⟩) (ihN rfl) rfl ?_
  exact trivial
theorem bf_X0_count_65 : BOKt mt tX0_count 402 65 b_X0_count_65 := by
  refine bplain (pc' := 66) rfl dX0_count_65 rfl (ihN rfl) rfl ?_
  refine bthr (pc' := 69) rfl dX0_count_66 rfl (lkf0 q1119 lf_118) (trivial) (ihN rfl) rfl ?_
  refine bcall (pc' := 72) rfl dX0_count_69 rfl (trivial) (lcv (n := 0) rfl (pvc (lfv mt_J21_size ⟨by decide, by decide⟩ mok_J21_size ⟨by decide, by decide⟩ ⟨q1394, ln_40, Or.inl ⟨q1393, Or.inl q1395⟩⟩) (trivial)) (Or.inl (by decide))) (ihN rfl) rfl ?_
  refine bret (pc' := 73) rfl dX0_count_72 rfl (Or.inl ⟨rfl, rfl⟩) (ihN rfl) rfl ?_
  exact trivial
theorem bf_X0_count_73 : BOKt mt tX0_count 402 73 b_X0_count_73 := by
  refine bplain (pc' := 74) rfl dX0_count_73 rfl (ihN rfl) rfl ?_
  refine bthr (pc' := 77) rfl dX0_count_74 rfl (lkf0 q1121 lf_278) (trivial) (ihN rfl) rfl ?_
  refine bret (pc' := 78) rfl dX0_count_77 rfl (Or.inl ⟨rfl, rfl⟩) (ihN rfl) rfl ?_
  exact trivial
theorem bf_X0_count_78 : BOKt mt tX0_count 402 78 b_X0_count_78 := by
  refine bplain (pc' := 79) rfl dX0_count_78 rfl (ihN rfl) rfl ?_
  refine bcall (pc' := 82) rfl dX0_count_79 rfl (trivial) (lcv (n := 0) rfl (pvc (lfv mt_X0_isParallel ⟨by decide, by decide⟩ mok_X0_isParallel ⟨by decide, by decide⟩ ⟨q2476, ln_30, Or.inl ⟨q2474, Or.inl qs44⟩⟩) (trivial)) (Or.inl (by decide))) (ihN rfl) rfl ?_
  refine bjmp (tg := 89) (pc' := 85) rfl (by decide) (by decide) rfl dX0_count_82 rfl (ihN rfl) rfl ?_
  refine bplain (pc' := 86) rfl dX0_count_85 rfl (ihN rfl) rfl ?_
  refine bjmp (tg := 90) (pc' := 89) rfl (by decide) (by decide) rfl dX0_count_86 rfl (ihN rfl) rfl ?_
  exact trivial
theorem bf_X0_count_89 : BOKt mt tX0_count 402 89 b_X0_count_89 := by
  refine bplain (pc' := 90) rfl dX0_count_89 rfl (ihN rfl) rfl ?_
  exact bnop0 rfl (by decide)
theorem bf_X0_count_90 : BOKt mt tX0_count 402 90 b_X0_count_90 := by
  refine bnop1 ?_
  refine bret (pc' := 91) rfl dX0_count_90 rfl (Or.inl ⟨rfl, rfl⟩) (ihN rfl) rfl ?_
  exact trivial
theorem bf_X0_count_91 : BOKt mt tX0_count 402 91 b_X0_count_91 := by
  refine bplain (pc' := 92) rfl dX0_count_91 rfl (ihN rfl) rfl ?_
  refine bcall (pc' := 95) rfl dX0_count_92 rfl (trivial) (lcv (n := 0) rfl (pvc (lfv mt_X0_serialNow ⟨by decide, by decide⟩ mok_X0_serialNow ⟨by decide, by decide⟩ ⟨q2566, ln_40, Or.inl ⟨q2564, Or.inl qs58⟩⟩) (trivial)) (Or.inl (by decide))) (ihN rfl) rfl ?_
  refine bret (pc' := 96) rfl dX0_count_95 rfl (Or.inl ⟨rfl, rfl⟩) (ihN rfl) rfl ?_
  exact trivial
theorem bf_X0_count_96 : BOKt mt tX0_count 402 96 b_X0_count_96 := by
  refine bplain (pc' := 97) rfl dX0_count_96 rfl (ihN rfl) rfl ?_
  refine bthr (pc' := 100) rfl dX0_count_97 rfl (lkf0 q1135 lf_541) (trivial) (ihN rfl) rfl ?_
  refine bret (pc' := 101) rfl dX0_count_100 rfl (Or.inl ⟨rfl, rfl⟩) (ihN rfl) rfl ?_
  exact trivial
theorem bf_X0_count_101 : BOKt mt tX0_count 402 101 b_X0_count_101 := by
  refine bplain (pc' := 102) rfl dX0_count_101 rfl (ihN rfl) rfl ?_
  refine bcall (pc' := 105) rfl dX0_count_102 rfl (trivial) (lcv (n := 0) rfl (pvc (lfv mt_X0_missing ⟨by decide, by decide⟩ mok_X0_missing ⟨by decide, by decide⟩ ⟨q2570, ln_40, Or.inl ⟨q2568, Or.inl qs59⟩⟩) (trivial)) (Or.inl (by decide))) (ihN rfl) rfl ?_
  refine bret (pc' := 106) rfl dX0_count_105 rfl (Or.inl ⟨rfl, rfl⟩) (ihN rfl) rfl ?_
  exact trivial
theorem bf_X0_count_106 : BOKt mt tX0_count 402 106 b_X0_count_106 := by
  refine bplain (pc' := 107) rfl dX0_count_106 rfl (ihN rfl) rfl ?_
  refine bthr (pc' := 110) rfl dX0_count_107 rfl (lkf0 q1110 lf_220) (trivial) (ihN rfl) rfl ?_
  refine bret (pc' := 111) rfl dX0_count_110 rfl (Or.inl ⟨rfl, rfl⟩) (ihN rfl) rfl ?_
  exact trivial
theorem bf_X0_count_111 : BOKt mt tX0_count 402 111 b_X0_count_111 := by
  refine bplain (pc' := 113) rfl dX0_count_111 rfl (ihN rfl) rfl ?_
  refine bret (pc' := 114) rfl dX0_count_113 rfl (Or.inl ⟨rfl, rfl⟩) (ihN rfl) rfl ?_
  exact trivial
theorem tf_X0_count : ∀ x ∈ tb_X0_count, BOK mt 402 x.1 x.2 := tb_c mt_X0_count bf_X0_count_0 (tb_c mt_X0_count bf_X0_count_52 (tb_c mt_X0_count bf_X0_count_57 (tb_c mt_X0_count bf_X0_count_65 (tb_c mt_X0_count bf_X0_count_73 (tb_c mt_X0_count bf_X0_count_78 (tb_c mt_X0_count bf_X0_count_89 (tb_c mt_X0_count bf_X0_count_90 (tb_c mt_X0_count bf_X0_count_91 (tb_c mt_X0_count bf_X0_count_96 (tb_c mt_X0_count bf_X0_count_101 (tb_c mt_X0_count bf_X0_count_106 (tb_c mt_X0_count bf_X0_count_111 (tb_n)))))))))))))
theorem bf_X3_missing_0 : BOKt mt tX3_missing 403 0 b_X3_missing_0 := by
  refine bplain (pc' := 1) rfl dX3_missing_0 rfl (ihN rfl) rfl ?_
  refine bplain (pc' := 2) rfl dX3_missing_1 rfl (ihN rfl) rfl ?_
  refine bplain (pc' := 3) rfl dX3_missing_2 rfl (ihN rfl) rfl ?_
  refine bplain (pc' := 4) rfl dX3_missing_3 rfl (ihN rfl) rfl ?_
  exact bnop0 rfl (by decide)
theorem bf_X3_missing_4 : BOKt mt tX3_missing 403 4 b_X3_missing_4 := by
  refine bplain (pc' := 5) rfl dX3_missing_4 rfl (ihN rfl) rfl ?_
  refine bplain (pc' := 7) rfl dX3_missing_5 rfl (ihN rfl) rfl ?_
  refine bjmp (tg := 34) (pc' := 10) rfl (by decide) (by decide) rfl dX3_missing_7 rfl (ihN rfl) rfl ?_
  refine bplain (pc' := 11) rfl dX3_missing_10 rfl (ihN rfl) rfl ?_
  refine bplain (pc' := 12) rfl dX3_missing_11 rfl (ihN rfl) rfl ?_
  refine bthr (pc' := 15) rfl dX3_missing_12 rfl (lkf0 q2597 lf_145) (trivial) (ihN rfl) rfl ?_
  refine bplain (pc' := 16) rfl dX3_missing_15 rfl (ihN rfl) rfl ?_
  refine bplain (pc' := 17) rfl dX3_missing_16 rfl (ihN rfl) rfl ?_
  refine bplain (pc' := 18) rfl dX3_missing_17 rfl (ihN rfl) rfl ?_
  refine bjmp (tg := 25) (pc' := 21) rfl (by decide) (by decide) rfl dX3_missing_18 rfl (ihN rfl) rfl ?_
  refine bplain (pc' := 22) rfl dX3_missing_21 rfl (ihN rfl) rfl ?_
  refine bjmp (tg := 26) (pc' := 25) rfl (by decide) (by decide) rfl dX3_missing_22 rfl (ihN rfl) rfl ?_
  exact trivial
theorem bf_X3_missing_25 : BOKt mt tX3_missing 403 25 b_X3_missing_25 := by
  refine bplain (pc' := 26) rfl dX3_missing_25 rfl (ihN rfl) rfl ?_
  exact bnop0 rfl (by decide)
theorem bf_X3_missing_26 : BOKt mt tX3_missing 403 26 b_X3_missing_26 := by
  refine bnop1 ?_
  refine bplain (pc' := 27) rfl dX3_missing_26 rfl (ihN rfl) rfl ?_
  refine bplain (pc' := 28) rfl dX3_missing_27 rfl (ihN rfl) rfl ?_
  refine bplain (pc' := 31) rfl dX3_missing_28 rfl (ihN rfl) rfl ?_
  refine bjmp (tg := 4) (pc' := 34) rfl (by decide) (by decide) rfl dX3_missing_31 rfl (ihN rfl) rfl ?_
  exact trivial
theorem bf_X3_missing_34 : BOKt mt tX3_missing 403 34 b_X3_missing_34 := by
  refine bplain (pc' := 35) rfl dX3_missing_34 rfl (ihN rfl) rfl ?_
  refine bret (pc' := 36) rfl dX3_missing_35 rfl (Or.inl ⟨rfl, rfl⟩) (ihN rfl) rfl ?_
  exact trivial
theorem tf_X3_missing : ∀ x ∈ tb_X3_missing, BOK mt 403 x.1 x.2 := tb_c mt_X3_missing bf_X3_missing_0 (tb_c mt_X3_missing bf_X3_missing_4 (tb_c mt_X3_missing bf_X3_missing_25 (tb_c mt_X3_missing bf_X3_missing_26 (tb_c mt_X3_missing bf_X3_missing_34 (tb_n)))))
theorem bf_X3_count_0 : BOKt mt tX3_count 404 0 b_X3_count_0 := by
  refine bplain (pc' := 1) rfl dX3_count_0 rfl (ihN rfl) rfl ?_
  exact bsw rfl dX3_count_1 (swt (by decide) (by decide) (by decide) (by decide) (by decide +kernel) (by decide +kernel)) (by decide +kernel) (ihN rfl)
theorem bf_X3_count_52 : BOKt mt tX3_count 404 52 b_X3_count_52 := by
  refine bplain (pc' := 53) rfl dX3_count_52 rfl (ihN rfl) rfl ?_
  refine bthr (pc' := 56) rfl dX3_count_53 rfl (lkf0 q2603 lf_274) (trivial) (ihN rfl) rfl ?_
  refine bret (pc' := 57) rfl dX3_count_56 rfl (Or.inl ⟨rfl, rfl⟩) (ihN rfl) rfl ?_
  exact trivial
theorem bf_X3_count_57 : BOKt mt tX3_count 404 57 b_X3_count_57 := by
  refine bplain (pc' := 58) rfl dX3_count_57 rfl (ihN rfl) rfl ?_
  refine bthr (pc' := 61) rfl dX3_count_58 rfl (lkf0 q2604 lf_334) (trivial) (ihN rfl) rfl ?_
  refine bret (pc' := 62) rfl dX3_count_61 rfl (Or.inl ⟨rfl, rfl⟩) (ihN rfl) rfl ?_
  exact trivial
theorem bf_X3_count_62 : BOKt mt tX3_count 404 62 b_X3_count_62 := by
  refine bplain (pc' := 63) rfl dX3_count_62 rfl (ihN rfl) rfl ?_
  refine bthr (pc' := 66) rfl dX3_count_63 rfl (lkf0 q2615 lf_272) (trivial) (ihN rfl) rfl ?_
  refine bret (pc' := 67) rfl dX3_count_66 rfl (Or.inl ⟨rfl, rfl⟩) (ihN rfl) rfl ?_
  exact trivial
theorem bf_X3_count_67 : BOKt mt tX3_count 404 67 b_X3_count_67 := by
  refine bplain (pc' := 68) rfl dX3_count_67 rfl (ihN rfl) rfl ?_
  refine bthr (pc' := 71) rfl dX3_count_68 rfl (lkf0 q2617 lf_280) (trivial) (ihN rfl) rfl ?_
  refine bret (pc' := 72) rfl dX3_count_71 rfl (Or.inl ⟨rfl, rfl⟩) (ihN rfl) rfl ?_
  exact trivial
theorem bf_X3_count_72 : BOKt mt tX3_count 404 72 b_X3_count_72 := by
  refine bplain (pc' := 73) rfl dX3_count_72 rfl (ihN rfl) rfl ?_
  refine bcall (pc' := 76) rfl dX3_count_73 rfl (trivial) (lcv (n := 0) rfl (pvc (lfv mt_X3_serials ⟨by decide, by decide⟩ mok_X3_serials ⟨by decide, by decide⟩ ⟨q3136, ln_40, Or.inl ⟨q3134, Or.inl qs123⟩⟩) (trivial)) (Or.inl (by decide))) (ihN rfl) rfl ?_
  refine bjmp (tg := 83) (pc' := 79) rfl (by decide) (by decide) rfl dX3_count_76 rfl (ihN rfl) rfl ?_
  refine bplain (pc' := 80) rfl dX3_count_79 rfl (ihN rfl) rfl ?_
  refine bjmp (tg := 84) (pc' := 83) rfl (by decide) (by decide) rfl dX3_count_80 rfl (ihN rfl) rfl ?_
  exact trivial
theorem bf_X3_count_83 : BOKt mt tX3_count 404 83 b_X3_count_83 := by
  refine bplain (pc' := 84) rfl dX3_count_83 rfl (ihN rfl) rfl ?_
  exact bnop0 rfl (by decide)
theorem bf_X3_count_84 : BOKt mt tX3_count 404 84 b_X3_count_84 := by
  refine bnop1 ?_
  refine bret (pc' := 85) rfl dX3_count_84 rfl (Or.inl ⟨rfl, rfl⟩) (ihN rfl) rfl ?_
  exact trivial
theorem bf_X3_count_85 : BOKt mt tX3_count 404 85 b_X3_count_85 := by
  refine bplain (pc' := 86) rfl dX3_count_85 rfl (ihN rfl) rfl ?_
  refine bcall (pc' := 89) rfl dX3_count_86 rfl (trivial) (lcv (n := 0) rfl (pvc (lfv mt_X3_serials ⟨by decide, by decide⟩ mok_X3_serials ⟨by decide, by decide⟩ ⟨q3136, ln_40, Or.inl ⟨q3134, Or.inl qs123⟩⟩) (trivial)) (Or.inl (by decide))) (ihN rfl) rfl ?_
  refine bret (pc' := 90) rfl dX3_count_89 rfl (Or.inl ⟨rfl, rfl⟩) (ihN rfl) rfl ?_
  exact trivial
theorem bf_X3_count_90 : BOKt mt tX3_count 404 90 b_X3_count_90 := by
  refine bplain (pc' := 91) rfl dX3_count_90 rfl (ihN rfl) rfl ?_
  refine bthr (pc' := 94) rfl dX3_count_91 rfl (lkf0 q2631 lf_543) (trivial) (ihN rfl) rfl ?_
  refine bret (pc' := 95) rfl dX3_count_94 rfl (Or.inl ⟨rfl, rfl⟩) (ihN rfl) rfl ?_
  exact trivial
theorem bf_X3_count_95 : BOKt mt tX3_count 404 95 b_X3_count_95 := by
  refine bplain (pc' := 96) rfl dX3_count_95 rfl (ihN rfl) rfl ?_
  refine bcall (pc' := 99) rfl dX3_count_96 rfl (trivial) (lcv (n := 0) rfl (pvc (lfv mt_X3_missing ⟨by decide, by decide⟩ mok_X3_missing ⟨by decide, by decide⟩ ⟨q3180, ln_40, Or.inl ⟨q3178, Or.inl qs129⟩⟩) (trivial)) (Or.inl (by decide))) (ihN rfl) rfl ?_
  refine bret (pc' := 100) rfl dX3_count_99 rfl (Or.inl ⟨rfl, rfl⟩) (ihN rfl) rfl ?_
  exact trivial
theorem bf_X3_count_100 : BOKt mt tX3_count 404 100 b_X3_count_100 := by
  refine bplain (pc' := 101) rfl dX3_count_100 rfl (ihN rfl) rfl ?_
  refine bthr (pc' := 104) rfl dX3_count_101 rfl (lkf0 q2601 lf_227) (trivial) (ihN rfl) rfl ?_
  refine bret (pc' := 105) rfl dX3_count_104 rfl (Or.inl ⟨rfl, rfl⟩) (ihN rfl) rfl ?_
  exact trivial
theorem bf_X3_count_105 : BOKt mt tX3_count 404 105 b_X3_count_105 := by
  refine bplain (pc' := 107) rfl dX3_count_105 rfl (ihN rfl) rfl ?_
  refine bret (pc' := 108) rfl dX3_count_107 rfl (Or.inl ⟨rfl, rfl⟩) (ihN rfl) rfl ?_
  exact trivial
theorem tf_X3_count : ∀ x ∈ tb_X3_count, BOK mt 404 x.1 x.2 := tb_c mt_X3_count bf_X3_count_0 (tb_c mt_X3_count bf_X3_count_52 (tb_c mt_X3_count bf_X3_count_57 (tb_c mt_X3_count bf_X3_count_62 (tb_c mt_X3_count bf_X3_count_67 (tb_c mt_X3_count bf_X3_count_72 (tb_c mt_X3_count bf_X3_count_83 (tb_c mt_X3_count bf_X3_count_84 (tb_c mt_X3_count bf_X3_count_85 (tb_c mt_X3_count bf_X3_count_90 (tb_c mt_X3_count bf_X3_count_95 (tb_c mt_X3_count bf_X3_count_100 (tb_c mt_X3_count bf_X3_count_105 (tb_n)))))))))))))
theorem bf_X0_tellsOf_0 : BOKt mt tX0_tellsOf 405 0 b_X0_tellsOf_0 := by
  refine bplain (pc' := 1) rfl dX0_tellsOf_0 rfl (ihN rfl) rfl ?_
  refine bplain (pc' := 3) rfl dX0_tellsOf_1 rfl (ihN rfl) rfl ?_
  refine bplain (pc' := 4) rfl dX0_tellsOf_3 rfl (ihN rfl) rfl ?_
  refine bplain (pc' := 6) rfl dX0_tellsOf_4 rfl (ihN rfl) rfl ?_
  exact bnop0 rfl (by decide)
theorem bf_X0_tellsOf_6 : BOKt mt tX0_tellsOf 405 6 b_X0_tellsOf_6 := by
  refine bnop1 ?_
  refine bplain (pc' := 8) rfl dX0_tellsOf_6 rfl (ihN rfl) rfl ?_
  refine bplain (pc' := 10) rfl dX0_tellsOf_8 rfl (ihN rfl) rfl ?_
  refine bjmp (tg := 45) (pc' := 13) rfl (by decide) (by decide) rfl dX0_tellsOf_10 rfl (ihN rfl) rfl ?_
  refine bobj (pc' := 16) rfl dX0_tellsOf_13 rfl (lkq0 lc_573 q2577) (ihN rfl) rfl ?_
  refine bplain (pc' := 18) rfl dX0_tellsOf_16 rfl (ihN rfl) rfl ?_
  refine bplain (pc' := 19) rfl dX0_tellsOf_18 rfl (ihN rfl) rfl ?_
  refine bplain (pc' := 20) rfl dX0_tellsOf_19 rfl (ihN rfl) rfl ?_
  refine bthr (pc' := 23) rfl dX0_tellsOf_20 rfl (lkf0 q1115 lf_116) (trivial) (ihN rfl) rfl ?_
  refine bplain (pc' := 24) rfl dX0_tellsOf_23 rfl (ihN rfl) rfl ?_
  refine bcall (pc' := 27) rfl dX0_tellsOf_24 rfl (trivial) (lcv (n := 1) rfl (pvc (lfv mt_J20_get ⟨by decide, by decide⟩ mok_J20_get ⟨by decide, by decide⟩ ⟨q1777, ln_338, Or.inl ⟨q1776, Or.inl q1778⟩⟩) (trivial)) (Or.inl (by decide))) (ihN rfl) rfl ?_
  refine bthr (pc' := 30) rfl dX0_tellsOf_27 rfl (lkc (nm := "StrideTurns$Statement") q1651 lg_340 lb_341) (Or.inl rfl) (ihN rfl) rfl ?_
  refine bplain (pc' := 32) rfl dX0_tellsOf_30 rfl (ihN rfl) rfl ?_
  refine bcall (pc' := 35) rfl dX0_tellsOf_32 rfl (trivial) (lcv (n := 1) rfl (pvc (lfv mt_X6_tells ⟨by decide, by decide⟩ mok_X6_tells ⟨by decide, by decide⟩ ⟨q1845, ln_225, Or.inl ⟨q1844, Or.inl q1846⟩⟩) (trivial)) (Or.inl (by decide))) (ihN rfl) rfl ?_
  refine bplain (pc' := 36) rfl dX0_tellsOf_35 rfl (ihN rfl) rfl ?_
  refine bplain (pc' := 37) rfl dX0_tellsOf_36 rfl (ihN rfl) rfl ?_
  refine bplain (pc' := 39) rfl dX0_tellsOf_37 rfl (ihN rfl) rfl ?_
  refine bplain (pc' := 42) rfl dX0_tellsOf_39 rfl (ihN rfl) rfl ?_
  refine bjmp (tg := 6) (pc' := 45) rfl (by decide) (by decide) rfl dX0_tellsOf_42 rfl (ihN rfl) rfl ?_
  exact trivial
theorem bf_X0_tellsOf_45 : BOKt mt tX0_tellsOf 405 45 b_X0_tellsOf_45 := by
  refine bplain (pc' := 46) rfl dX0_tellsOf_45 rfl (ihN rfl) rfl ?_
  refine bplain (pc' := 48) rfl dX0_tellsOf_46 rfl (ihN rfl) rfl ?_
  exact bnop0 rfl (by decide)
theorem bf_X0_tellsOf_48 : BOKt mt tX0_tellsOf 405 48 b_X0_tellsOf_48 := by
  refine bnop1 ?_
  refine bplain (pc' := 50) rfl dX0_tellsOf_48 rfl (ihN rfl) rfl ?_
  refine bplain (pc' := 51) rfl dX0_tellsOf_50 rfl (ihN rfl) rfl ?_
  refine bjmp (tg := 167) (pc' := 54) rfl (by decide) (by decide) rfl dX0_tellsOf_51 rfl (ihN rfl) rfl ?_
  refine bplain (pc' := 55) rfl dX0_tellsOf_54 rfl (ihN rfl) rfl ?_
  refine bplain (pc' := 57) rfl dX0_tellsOf_55 rfl (ihN rfl) rfl ?_
  exact bnop0 rfl (by decide)
theorem bf_X0_tellsOf_57 : BOKt mt tX0_tellsOf 405 57 b_X0_tellsOf_57 := by
  refine bnop1 ?_
  refine bplain (pc' := 59) rfl dX0_tellsOf_57 rfl (ihN rfl) rfl ?_
  refine bplain (pc' := 60) rfl dX0_tellsOf_59 rfl (ihN rfl) rfl ?_
  refine bjmp (tg := 100) (pc' := 63) rfl (by decide) (by decide) rfl dX0_tellsOf_60 rfl (ihN rfl) rfl ?_
  refine bobj (pc' := 66) rfl dX0_tellsOf_63 rfl (lkq0 lc_573 q2577) (ihN rfl) rfl ?_
  refine bplain (pc' := 68) rfl dX0_tellsOf_66 rfl (ihN rfl) rfl ?_
  refine bplain (pc' := 69) rfl dX0_tellsOf_68 rfl (ihN rfl) rfl ?_
  refine bplain (pc' := 70) rfl dX0_tellsOf_69 rfl (ihN rfl) rfl ?_
  refine bthr (pc' := 73) rfl dX0_tellsOf_70 rfl (lkf0 q1115 lf_116) (trivial) (ihN rfl) rfl ?_
  refine bplain (pc' := 74) rfl dX0_tellsOf_73 rfl (ihN rfl) rfl ?_
  refine bcall (pc' := 77) rfl dX0_tellsOf_74 rfl (trivial) (lcv (n := 1) rfl (pvc (lfv mt_J20_get ⟨by decide, by decide⟩ mok_J20_get ⟨by decide, by decide⟩ ⟨q1777, ln_338, Or.inl ⟨q1776, Or.inl q1778⟩⟩) (trivial)) (Or.inl (by decide))) (ihN rfl) rfl ?_
  refine bthr (pc' := 80) rfl dX0_tellsOf_77 rfl (lkc (nm := "StrideTurns$Statement") q1651 lg_340 lb_341) (Or.inl rfl) (ihN rfl) rfl ?_
  refine bplain (pc' := 82) rfl dX0_tellsOf_80 rfl (ihN rfl) rfl ?_
  refine bcall (pc' := 85) rfl dX0_tellsOf_82 rfl (trivial) (lcv (n := 1) rfl (pvc (lfv mt_X6_at ⟨by decide, by decide⟩ mok_X6_at ⟨by decide, by decide⟩ ⟨q1785, ln_342, Or.inl ⟨q1784, Or.inl q1786⟩⟩) (trivial)) (Or.inl (by decide))) (ihN rfl) rfl ?_
  refine bplain (pc' := 87) rfl dX0_tellsOf_85 rfl (ihN rfl) rfl ?_
  refine bcall (pc' := 90) rfl dX0_tellsOf_87 rfl (trivial) (lcv (n := 1) rfl (pvc (lfv mt_X7_tells ⟨by decide, by decide⟩ mok_X7_tells ⟨by decide, by decide⟩ ⟨q1899, ln_225, Or.inl ⟨q1898, Or.inl q1900⟩⟩) (trivial)) (Or.inl (by decide))) (ihN rfl) rfl ?_
  refine bplain (pc' := 91) rfl dX0_tellsOf_90 rfl (ihN rfl) rfl ?_
  refine bplain (pc' := 92) rfl dX0_tellsOf_91 rfl (ihN rfl) rfl ?_
  refine bplain (pc' := 94) rfl dX0_tellsOf_92 rfl (ihN rfl) rfl ?_
  refine bplain (pc' := 97) rfl dX0_tellsOf_94 rfl (ihN rfl) rfl ?_
  refine bjmp (tg := 57) (pc' := 100) rfl (by decide) (by decide) rfl dX0_tellsOf_97 rfl (ihN rfl) rfl ?_
  exact trivial
theorem bf_X0_tellsOf_100 : BOKt mt tX0_tellsOf 405 100 b_X0_tellsOf_100 := by
  refine bplain (pc' := 101) rfl dX0_tellsOf_100 rfl (ihN rfl) rfl ?_
  refine bplain (pc' := 102) rfl dX0_tellsOf_101 rfl (ihN rfl) rfl ?_
  refine bplain (pc' := 103) rfl dX0_tellsOf_102 rfl (ihN rfl) rfl ?_
  refine bplain (pc' := 105) rfl dX0_tellsOf_103 rfl (ihN rfl) rfl ?_
  refine bplain (pc' := 106) rfl dX0_tellsOf_105 rfl (ihN rfl) rfl ?_
  refine bplain (pc' := 108) rfl dX0_tellsOf_106 rfl (ihN rfl) rfl ?_
  refine bplain (pc' := 109) rfl dX0_tellsOf_108 rfl (ihN rfl) rfl ?_
  refine bplain (pc' := 111) rfl dX0_tellsOf_109 rfl (ihN rfl) rfl ?_
  exact bnop0 rfl (by decide)
theorem bf_X0_tellsOf_111 : BOKt mt tX0_tellsOf 405 111 b_X0_tellsOf_111 := by
  refine bnop1 ?_
  refine bplain (pc' := 113) rfl dX0_tellsOf_111 rfl (ihN rfl) rfl ?_
  refine bplain (pc' := 114) rfl dX0_tellsOf_113 rfl (ihN rfl) rfl ?_
  refine bjmp (tg := 161) (pc' := 117) rfl (by decide) (by decide) rfl dX0_tellsOf_114 rfl (ihN rfl) rfl ?_
  refine bplain (pc' := 118) rfl dX0_tellsOf_117 rfl (ihN rfl) rfl ?_
  refine bthr (pc' := 121) rfl dX0_tellsOf_118 rfl (lkf0 q1118 lf_270) (trivial) (ihN rfl) rfl ?_
  refine bjmp (tg := 161) (pc' := 124) rfl (by decide) (by decide) rfl dX0_tellsOf_121 rfl (ihN rfl) rfl ?_
  refine bplain (pc' := 125) rfl dX0_tellsOf_124 rfl (ihN rfl) rfl ?_
  refine bplain (pc' := 127) rfl dX0_tellsOf_125 rfl (ihN rfl) rfl ?_
  refine bcall (pc' := 130) rfl dX0_tellsOf_127 rfl (trivial) (lcv (n := 1) rfl (pvc (lfv mt_X0_isTo ⟨by decide, by decide⟩ mok_X0_isTo ⟨by decide, by decide⟩ ⟨q1909, ln_222, Or.inl ⟨q1907, Or.inl qs18⟩⟩) (trivial)) (Or.inl (by decide))) (ihN rfl) rfl ?_
  refine bjmp (tg := 161) (pc' := 133) rfl (by decide) (by decide) rfl dX0_tellsOf_130 rfl (ihN rfl) rfl ?_
  refine bobj (pc' := 136) rfl dX0_tellsOf_133 rfl (lkq0 lc_573 q2577) (ihN rfl) rfl ?_
  refine bplain (pc' := 138) rfl dX0_tellsOf_136 rfl (ihN rfl) rfl ?_
  refine bplain (pc' := 139) rfl dX0_tellsOf_138 rfl (ihN rfl) rfl ?_
  refine bplain (pc' := 140) rfl dX0_tellsOf_139 rfl (ihN rfl) rfl ?_
  refine bplain (pc' := 142) rfl dX0_tellsOf_140 rfl (ihN rfl) rfl ?_
  refine bplain (pc' := 143) rfl dX0_tellsOf_142 rfl (ihN rfl) rfl ?_
  refine bcall (pc' := 146) rfl dX0_tellsOf_143 rfl (trivial) (lcv (n := 2) rfl (pvc (lfv mt_X0_sectionAt ⟨by decide, by decide⟩ mok_X0_sectionAt ⟨by decide, by decide⟩ ⟨q1921, ln_391, Or.inl ⟨q1919, Or.inl qs21⟩⟩) (trivial)) (Or.inl (by decide))) (ihN rfl) rfl ?_
  refine bplain (pc' := 148) rfl dX0_tellsOf_146 rfl (ihN rfl) rfl ?_
  refine bcall (pc' := 151) rfl dX0_tellsOf_148 rfl (trivial) (lcv (n := 1) rfl (pvc (lfv mt_X8_tells ⟨by decide, by decide⟩ mok_X8_tells ⟨by decide, by decide⟩ ⟨q1953, ln_225, Or.inl ⟨q1952, Or.inl q1954⟩⟩) (trivial)) (Or.inl (by decide))) (ihN rfl) rfl ?_
  refine bplain (pc' := 152) rfl dX0_tellsOf_151 rfl (ihN rfl) rfl ?_
  refine bplain (pc' := 153) rfl dX0_tellsOf_152 rfl (ihN rfl) rfl ?_
  refine bplain (pc' := 155) rfl dX0_tellsOf_153 rfl (ihN rfl) rfl ?_
  refine bplain (pc' := 158) rfl dX0_tellsOf_155 rfl (ihN rfl) rfl ?_
  refine bjmp (tg := 111) (pc' := 161) rfl (by decide) (by decide) rfl dX0_tellsOf_158 rfl (ihN rfl) rfl ?_
  exact trivial
theorem bf_X0_tellsOf_161 : BOKt mt tX0_tellsOf 405 161 b_X0_tellsOf_161 := by
  refine bnop1 ?_
  refine bplain (pc' := 164) rfl dX0_tellsOf_161 rfl (ihN rfl) rfl ?_
  refine bjmp (tg := 48) (pc' := 167) rfl (by decide) (by decide) rfl dX0_tellsOf_164 rfl (ihN rfl) rfl ?_
  exact trivial
theorem bf_X0_tellsOf_167 : BOKt mt tX0_tellsOf 405 167 b_X0_tellsOf_167 := by
  refine bplain (pc' := 168) rfl dX0_tellsOf_167 rfl (ihN rfl) rfl ?_
  refine bplain (pc' := 170) rfl dX0_tellsOf_168 rfl (ihN rfl) rfl ?_
  exact bnop0 rfl (by decide)
theorem bf_X0_tellsOf_170 : BOKt mt tX0_tellsOf 405 170 b_X0_tellsOf_170 := by
  refine bnop1 ?_
  refine bplain (pc' := 172) rfl dX0_tellsOf_170 rfl (ihN rfl) rfl ?_
  refine bplain (pc' := 174) rfl dX0_tellsOf_172 rfl (ihN rfl) rfl ?_
  refine bjmp (tg := 203) (pc' := 177) rfl (by decide) (by decide) rfl dX0_tellsOf_174 rfl (ihN rfl) rfl ?_
  refine bobj (pc' := 180) rfl dX0_tellsOf_177 rfl (lkq0 lc_573 q2577) (ihN rfl) rfl ?_
  refine bplain (pc' := 182) rfl dX0_tellsOf_180 rfl (ihN rfl) rfl ?_
  refine bplain (pc' := 183) rfl dX0_tellsOf_182 rfl (ihN rfl) rfl ?_
  refine bplain (pc' := 184) rfl dX0_tellsOf_183 rfl (ihN rfl) rfl ?_
  refine bplain (pc' := 185) rfl dX0_tellsOf_184 rfl (ihN rfl) rfl ?_
  refine bplain (pc' := 187) rfl dX0_tellsOf_185 rfl (ihN rfl) rfl ?_
  refine bcall (pc' := 190) rfl dX0_tellsOf_187 rfl (trivial) (lcv (n := 2) rfl (pvc (lfv mt_X0_kindsOf ⟨by decide, by decide⟩ mok_X0_kindsOf ⟨by decide, by decide⟩ ⟨q1981, ln_402, Or.inl ⟨q1979, Or.inl qs22⟩⟩) (trivial)) (Or.inl (by decide))) (ihN rfl) rfl ?_
  refine bcall (pc' := 193) rfl dX0_tellsOf_190 rfl (trivial) (lcv (n := 0) rfl (pvc (lfv mt_J1_size ⟨by decide, by decide⟩ mok_J1_size ⟨by decide, by decide⟩ ⟨q2041, ln_40, Or.inr (Or.inr ⟨rfl, ⟨"java/util/LinkedHashMap", "size", "()I"⟩, "java/util/HashMap", q2037, q2038, lv_84, ln_40, q2040, Or.inl ⟨_, _, _, q2041, q2042⟩⟩)⟩) (trivial)) (Or.inl (by decide))) (ihN rfl) rfl ?_
  refine bplain (pc' := 194) rfl dX0_tellsOf_193 rfl (ihN rfl) rfl ?_
  refine bplain (pc' := 195) rfl dX0_tellsOf_194 rfl (ihN rfl) rfl ?_
  refine bplain (pc' := 197) rfl dX0_tellsOf_195 rfl (ihN rfl) rfl ?_
  refine bplain (pc' := 200) rfl dX0_tellsOf_197 rfl (ihN rfl) rfl ?_
  refine bjmp (tg := 170) (pc' := 203) rfl (by decide) (by decide) rfl dX0_tellsOf_200 rfl (ihN rfl) rfl ?_
  exact trivial
theorem bf_X0_tellsOf_203 : BOKt mt tX0_tellsOf 405 203 b_X0_tellsOf_203 := by
  refine bplain (pc' := 205) rfl dX0_tellsOf_203 rfl (ihN rfl) rfl ?_
  refine bret (pc' := 206) rfl dX0_tellsOf_205 rfl (rfl) (ihN rfl) rfl ?_
  exact trivial
theorem tf_X0_tellsOf : ∀ x ∈ tb_X0_tellsOf, BOK mt 405 x.1 x.2 := tb_c mt_X0_tellsOf bf_X0_tellsOf_0 (tb_c mt_X0_tellsOf bf_X0_tellsOf_6 (tb_c mt_X0_tellsOf bf_X0_tellsOf_45 (tb_c mt_X0_tellsOf bf_X0_tellsOf_48 (tb_c mt_X0_tellsOf bf_X0_tellsOf_57 (tb_c mt_X0_tellsOf bf_X0_tellsOf_100 (tb_c mt_X0_tellsOf bf_X0_tellsOf_111 (tb_c mt_X0_tellsOf bf_X0_tellsOf_161 (tb_c mt_X0_tellsOf bf_X0_tellsOf_167 (tb_c mt_X0_tellsOf bf_X0_tellsOf_170 (tb_c mt_X0_tellsOf bf_X0_tellsOf_203 (tb_n)))))))))))
theorem bf_X0_tellsRow_0 : BOKt mt tX0_tellsRow 406 0 b_X0_tellsRow_0 := by
  refine bobj (pc' := 3) rfl dX0_tellsRow_0 rfl (lkq0 lc_573 q2577) (ihN rfl) rfl ?_
  refine bplain (pc' := 4) rfl dX0_tellsRow_3 rfl (ihN rfl) rfl ?_
  refine bplain (pc' := 5) rfl dX0_tellsRow_4 rfl (ihN rfl) rfl ?_
  refine bplain (pc' := 6) rfl dX0_tellsRow_5 rfl (ihN rfl) rfl ?_
  refine bplain (pc' := 7) rfl dX0_tellsRow_6 rfl (ihN rfl) rfl ?_
  refine bcall (pc' := 10) rfl dX0_tellsRow_7 rfl (trivial) (lcv (n := 1) rfl (pvc (lfv mt_X0_verdictOf ⟨by decide, by decide⟩ mok_X0_verdictOf ⟨by decide, by decide⟩ ⟨q2296, ln_225, Or.inl ⟨q2294, Or.inl qs30⟩⟩) (trivial)) (Or.inl (by decide))) (ihN rfl) rfl ?_
  refine bplain (pc' := 11) rfl dX0_tellsRow_10 rfl (ihN rfl) rfl ?_
  refine bplain (pc' := 12) rfl dX0_tellsRow_11 rfl (ihN rfl) rfl ?_
  refine bplain (pc' := 14) rfl dX0_tellsRow_12 rfl (ihN rfl) rfl ?_
  refine bplain (pc' := 15) rfl dX0_tellsRow_14 rfl (ihN rfl) rfl ?_
  refine bplain (pc' := 17) rfl dX0_tellsRow_15 rfl (ihN rfl) rfl ?_
  exact bnop0 rfl (by decide)
theorem bf_X0_tellsRow_17 : BOKt mt tX0_tellsRow 406 17 b_X0_tellsRow_17 := by
  refine bnop1 ?_
  refine bplain (pc' := 19) rfl dX0_tellsRow_17 rfl (ihN rfl) rfl ?_
  refine bplain (pc' := 20) rfl dX0_tellsRow_19 rfl (ihN rfl) rfl ?_
  refine bjmp (tg := 46) (pc' := 23) rfl (by decide) (by decide) rfl dX0_tellsRow_20 rfl (ihN rfl) rfl ?_
  refine bobj (pc' := 26) rfl dX0_tellsRow_23 rfl (lkq0 lc_573 q2577) (ihN rfl) rfl ?_
  refine bplain (pc' := 28) rfl dX0_tellsRow_26 rfl (ihN rfl) rfl ?_
  refine bplain (pc' := 29) rfl dX0_tellsRow_28 rfl (ihN rfl) rfl ?_
  refine bplain (pc' := 30) rfl dX0_tellsRow_29 rfl (ihN rfl) rfl ?_
  refine bplain (pc' := 31) rfl dX0_tellsRow_30 rfl (ihN rfl) rfl ?_
  refine bplain (pc' := 33) rfl dX0_tellsRow_31 rfl (ihN rfl) rfl ?_
  refine bcall (pc' := 36) rfl dX0_tellsRow_33 rfl (trivial) (lcv (n := 2) rfl (pvc (lfv mt_X0_witnessBy ⟨by decide, by decide⟩ mok_X0_witnessBy ⟨by decide, by decide⟩ ⟨q2330, ln_252, Or.inl ⟨q2328, Or.inl qs35⟩⟩) (trivial)) (Or.inl (by decide))) (ihN rfl) rfl ?_
  refine bplain (pc' := 37) rfl dX0_tellsRow_36 rfl (ihN rfl) rfl ?_
  refine bplain (pc' := 38) rfl dX0_tellsRow_37 rfl (ihN rfl) rfl ?_
  refine bplain (pc' := 40) rfl dX0_tellsRow_38 rfl (ihN rfl) rfl ?_
  refine bplain (pc' := 43) rfl dX0_tellsRow_40 rfl (ihN rfl) rfl ?_
  refine bjmp (tg := 17) (pc' := 46) rfl (by decide) (by decide) rfl dX0_tellsRow_43 rfl (ihN rfl) rfl ?_
  exact trivial
theorem bf_X0_tellsRow_46 : BOKt mt tX0_tellsRow 406 46 b_X0_tellsRow_46 := by
  refine bplain (pc' := 47) rfl dX0_tellsRow_46 rfl (ihN rfl) rfl ?_
  refine bplain (pc' := 49) rfl dX0_tellsRow_47 rfl (ihN rfl) rfl ?_
  exact bnop0 rfl (by decide)
theorem bf_X0_tellsRow_49 : BOKt mt tX0_tellsRow 406 49 b_X0_tellsRow_49 := by
  refine bnop1 ?_
  refine bplain (pc' := 51) rfl dX0_tellsRow_49 rfl (ihN rfl) rfl ?_
  refine bplain (pc' := 52) rfl dX0_tellsRow_51 rfl (ihN rfl) rfl ?_
  refine bjmp (tg := 143) (pc' := 55) rfl (by decide) (by decide) rfl dX0_tellsRow_52 rfl (ihN rfl) rfl ?_
  refine bobj (pc' := 58) rfl dX0_tellsRow_55 rfl (lkq0 lc_573 q2577) (ihN rfl) rfl ?_
  refine bplain (pc' := 60) rfl dX0_tellsRow_58 rfl (ihN rfl) rfl ?_
  refine bplain (pc' := 61) rfl dX0_tellsRow_60 rfl (ihN rfl) rfl ?_
  refine bplain (pc' := 62) rfl dX0_tellsRow_61 rfl (ihN rfl) rfl ?_
  refine bplain (pc' := 64) rfl dX0_tellsRow_62 rfl (ihN rfl) rfl ?_
  refine bplain (pc' := 65) rfl dX0_tellsRow_64 rfl (ihN rfl) rfl ?_
  refine bplain (pc' := 66) rfl dX0_tellsRow_65 rfl (ihN rfl) rfl ?_
  refine bcall (pc' := 69) rfl dX0_tellsRow_66 rfl (trivial) (lcv (n := 3) rfl (pvc (lfv mt_X0_bitsOf ⟨by decide, by decide⟩ mok_X0_bitsOf ⟨by decide, by decide⟩ ⟨q2262, ln_440, Or.inl ⟨q2260, Or.inl qs29⟩⟩) (trivial)) (Or.inl (by decide))) (ihN rfl) rfl ?_
  refine bcall (pc' := 72) rfl dX0_tellsRow_69 rfl (trivial) (lcs (l := q2265) mt_J10_bitCount ⟨by decide, by decide⟩ mok_J10_bitCount rfl ln_441 (Or.inl q2264)) (ihN rfl) rfl ?_
  refine bplain (pc' := 73) rfl dX0_tellsRow_72 rfl (ihN rfl) rfl ?_
  refine bplain (pc' := 74) rfl dX0_tellsRow_73 rfl (ihN rfl) rfl ?_
  refine bplain (pc' := 76) rfl dX0_tellsRow_74 rfl (ihN rfl) rfl ?_
  refine bobj (pc' := 79) rfl dX0_tellsRow_76 rfl (lkq0 lc_573 q2577) (ihN rfl) rfl ?_
  refine bplain (pc' := 81) rfl dX0_tellsRow_79 rfl (ihN rfl) rfl ?_
  refine bplain (pc' := 82) rfl dX0_tellsRow_81 rfl (ihN rfl) rfl ?_
  refine bplain (pc' := 83) rfl dX0_tellsRow_82 rfl (ihN rfl) rfl ?_
  refine bplain (pc' := 85) rfl dX0_tellsRow_83 rfl (ihN rfl) rfl ?_
  refine bplain (pc' := 86) rfl dX0_tellsRow_85 rfl (ihN rfl) rfl ?_
  refine bplain (pc' := 87) rfl dX0_tellsRow_86 rfl (ihN rfl) rfl ?_
  refine bcall (pc' := 90) rfl dX0_tellsRow_87 rfl (trivial) (lcv (n := 3) rfl (pvc (lfv mt_X0_bitsOf ⟨by decide, by decide⟩ mok_X0_bitsOf ⟨by decide, by decide⟩ ⟨q2262, ln_440, Or.inl ⟨q2260, Or.inl qs29⟩⟩) (trivial)) (Or.inl (by decide))) (ihN rfl) rfl ?_
  refine bcall (pc' := 93) rfl dX0_tellsRow_90 rfl (trivial) (lcs (l := q2275) mt_X0_piecesOf ⟨by decide, by decide⟩ mok_X0_piecesOf rfl ln_441 (Or.inl q2274)) (ihN rfl) rfl ?_
  refine bplain (pc' := 94) rfl dX0_tellsRow_93 rfl (ihN rfl) rfl ?_
  refine bplain (pc' := 95) rfl dX0_tellsRow_94 rfl (ihN rfl) rfl ?_
  refine bplain (pc' := 97) rfl dX0_tellsRow_95 rfl (ihN rfl) rfl ?_
  refine bplain (pc' := 98) rfl dX0_tellsRow_97 rfl (ihN rfl) rfl ?_
  refine bplain (pc' := 100) rfl dX0_tellsRow_98 rfl (ihN rfl) rfl ?_
  exact bnop0 rfl (by decide)
theorem bf_X0_tellsRow_100 : BOKt mt tX0_tellsRow 406 100 b_X0_tellsRow_100 := by
  refine bnop1 ?_
  refine bplain (pc' := 102) rfl dX0_tellsRow_100 rfl (ihN rfl) rfl ?_
  refine bplain (pc' := 103) rfl dX0_tellsRow_102 rfl (ihN rfl) rfl ?_
  refine bthr (pc' := 106) rfl dX0_tellsRow_103 rfl (lkf0 q1118 lf_270) (trivial) (ihN rfl) rfl ?_
  refine bjmp (tg := 137) (pc' := 109) rfl (by decide) (by decide) rfl dX0_tellsRow_106 rfl (ihN rfl) rfl ?_
  refine bobj (pc' := 112) rfl dX0_tellsRow_109 rfl (lkq0 lc_573 q2577) (ihN rfl) rfl ?_
  refine bplain (pc' := 114) rfl dX0_tellsRow_112 rfl (ihN rfl) rfl ?_
  refine bplain (pc' := 115) rfl dX0_tellsRow_114 rfl (ihN rfl) rfl ?_
  refine bplain (pc' := 116) rfl dX0_tellsRow_115 rfl (ihN rfl) rfl ?_
  refine bplain (pc' := 118) rfl dX0_tellsRow_116 rfl (ihN rfl) rfl ?_
  refine bplain (pc' := 119) rfl dX0_tellsRow_118 rfl (ihN rfl) rfl ?_
  refine bplain (pc' := 121) rfl dX0_tellsRow_119 rfl (ihN rfl) rfl ?_
  refine bcall (pc' := 124) rfl dX0_tellsRow_121 rfl (trivial) (lcv (n := 3) rfl (pvc (lfv mt_X0_bitsOf ⟨by decide, by decide⟩ mok_X0_bitsOf ⟨by decide, by decide⟩ ⟨q2262, ln_440, Or.inl ⟨q2260, Or.inl qs29⟩⟩) (trivial)) (Or.inl (by decide))) (ihN rfl) rfl ?_
  refine bcall (pc' := 127) rfl dX0_tellsRow_124 rfl (trivial) (lcs (l := q2265) mt_J10_bitCount ⟨by decide, by decide⟩ mok_J10_bitCount rfl ln_441 (Or.inl q2264)) (ihN rfl) rfl ?_
  refine bplain (pc' := 128) rfl dX0_tellsRow_127 rfl (ihN rfl) rfl ?_
  refine bplain (pc' := 129) rfl dX0_tellsRow_128 rfl (ihN rfl) rfl ?_
  refine bplain (pc' := 131) rfl dX0_tellsRow_129 rfl (ihN rfl) rfl ?_
  refine bplain (pc' := 134) rfl dX0_tellsRow_131 rfl (ihN rfl) rfl ?_
  refine bjmp (tg := 100) (pc' := 137) rfl (by decide) (by decide) rfl dX0_tellsRow_134 rfl (ihN rfl) rfl ?_
  exact trivial
theorem bf_X0_tellsRow_137 : BOKt mt tX0_tellsRow 406 137 b_X0_tellsRow_137 := by
  refine bplain (pc' := 140) rfl dX0_tellsRow_137 rfl (ihN rfl) rfl ?_
  refine bjmp (tg := 49) (pc' := 143) rfl (by decide) (by decide) rfl dX0_tellsRow_140 rfl (ihN rfl) rfl ?_
  exact trivial
theorem bf_X0_tellsRow_143 : BOKt mt tX0_tellsRow 406 143 b_X0_tellsRow_143 := by
  refine bplain (pc' := 145) rfl dX0_tellsRow_143 rfl (ihN rfl) rfl ?_
  refine bret (pc' := 146) rfl dX0_tellsRow_145 rfl (rfl) (ihN rfl) rfl ?_
  exact trivial
theorem tf_X0_tellsRow : ∀ x ∈ tb_X0_tellsRow, BOK mt 406 x.1 x.2 := tb_c mt_X0_tellsRow bf_X0_tellsRow_0 (tb_c mt_X0_tellsRow bf_X0_tellsRow_17 (tb_c mt_X0_tellsRow bf_X0_tellsRow_46 (tb_c mt_X0_tellsRow bf_X0_tellsRow_49 (tb_c mt_X0_tellsRow bf_X0_tellsRow_100 (tb_c mt_X0_tellsRow bf_X0_tellsRow_137 (tb_c mt_X0_tellsRow bf_X0_tellsRow_143 (tb_n)))))))
theorem bf_X0_tellsCells_0 : BOKt mt tX0_tellsCells 407 0 b_X0_tellsCells_0 := by
  refine bplain (pc' := 1) rfl dX0_tellsCells_0 rfl (ihN rfl) rfl ?_
  refine bplain (pc' := 3) rfl dX0_tellsCells_1 rfl (ihN rfl) rfl ?_
  refine bplain (pc' := 4) rfl dX0_tellsCells_3 rfl (ihN rfl) rfl ?_
  refine bplain (pc' := 6) rfl dX0_tellsCells_4 rfl (ihN rfl) rfl ?_
  exact bnop0 rfl (by decide)
theorem bf_X0_tellsCells_6 : BOKt mt tX0_tellsCells 407 6 b_X0_tellsCells_6 := by
  refine bnop1 ?_
  refine bplain (pc' := 8) rfl dX0_tellsCells_6 rfl (ihN rfl) rfl ?_
  refine bplain (pc' := 9) rfl dX0_tellsCells_8 rfl (ihN rfl) rfl ?_
  refine bthr (pc' := 12) rfl dX0_tellsCells_9 rfl (lkf0 q1112 lf_113) (trivial) (ihN rfl) rfl ?_
  refine bplain (pc' := 13) rfl dX0_tellsCells_12 rfl (ihN rfl) rfl ?_
  refine bplain (pc' := 14) rfl dX0_tellsCells_13 rfl (ihN rfl) rfl ?_
  refine bthr (pc' := 17) rfl dX0_tellsCells_14 rfl (lkf1 (host := "StrideTurns") (by decide) q1231 lf_216) (trivial) (ihN rfl) rfl ?_
  refine bjmp (tg := 112) (pc' := 20) rfl (by decide) (by decide) rfl dX0_tellsCells_17 rfl (ihN rfl) rfl ?_
  refine bobj (pc' := 23) rfl dX0_tellsCells_20 rfl (lkq0 lc_573 q2577) (ihN rfl) rfl ?_
  refine bplain (pc' := 25) rfl dX0_tellsCells_23 rfl (ihN rfl) rfl ?_
  refine bplain (pc' := 26) rfl dX0_tellsCells_25 rfl (ihN rfl) rfl ?_
  refine bplain (pc' := 27) rfl dX0_tellsCells_26 rfl (ihN rfl) rfl ?_
  refine bthr (pc' := 30) rfl dX0_tellsCells_27 rfl (lkf0 q1112 lf_113) (trivial) (ihN rfl) rfl ?_
  refine bplain (pc' := 31) rfl dX0_tellsCells_30 rfl (ihN rfl) rfl ?_
  refine bplain (pc' := 32) rfl dX0_tellsCells_31 rfl (ihN rfl) rfl ?_
  refine bplain (pc' := 34) rfl dX0_tellsCells_32 rfl (ihN rfl) rfl ?_
  refine bcall (pc' := 37) rfl dX0_tellsCells_34 rfl (trivial) (lcv (n := 1) rfl (pvc (lfv mt_X4_tells ⟨by decide, by decide⟩ mok_X4_tells ⟨by decide, by decide⟩ ⟨q1336, ln_249, Or.inl ⟨q1335, Or.inl q1337⟩⟩) (trivial)) (Or.inl (by decide))) (ihN rfl) rfl ?_
  refine bplain (pc' := 38) rfl dX0_tellsCells_37 rfl (ihN rfl) rfl ?_
  refine bplain (pc' := 40) rfl dX0_tellsCells_38 rfl (ihN rfl) rfl ?_
  refine bobj (pc' := 43) rfl dX0_tellsCells_40 rfl (lkq0 lc_573 q2577) (ihN rfl) rfl ?_
  refine bplain (pc' := 45) rfl dX0_tellsCells_43 rfl (ihN rfl) rfl ?_
  refine bplain (pc' := 46) rfl dX0_tellsCells_45 rfl (ihN rfl) rfl ?_
  refine bplain (pc' := 47) rfl dX0_tellsCells_46 rfl (ihN rfl) rfl ?_
  refine bthr (pc' := 50) rfl dX0_tellsCells_47 rfl (lkf0 q1112 lf_113) (trivial) (ihN rfl) rfl ?_
  refine bplain (pc' := 51) rfl dX0_tellsCells_50 rfl (ihN rfl) rfl ?_
  refine bplain (pc' := 52) rfl dX0_tellsCells_51 rfl (ihN rfl) rfl ?_
  refine bthr (pc' := 55) rfl dX0_tellsCells_52 rfl (lkf1 (host := "StrideTurns") (by decide) q1234 lf_218) (trivial) (ihN rfl) rfl ?_
  refine bplain (pc' := 57) rfl dX0_tellsCells_55 rfl (ihN rfl) rfl ?_
  refine bplain (pc' := 58) rfl dX0_tellsCells_57 rfl (ihN rfl) rfl ?_
  refine bplain (pc' := 59) rfl dX0_tellsCells_58 rfl (ihN rfl) rfl ?_
  refine bplain (pc' := 60) rfl dX0_tellsCells_59 rfl (ihN rfl) rfl ?_
  refine bplain (pc' := 62) rfl dX0_tellsCells_60 rfl (ihN rfl) rfl ?_
  refine bobj (pc' := 65) rfl dX0_tellsCells_62 rfl (lkq0 lc_573 q2577) (ihN rfl) rfl ?_
  refine bplain (pc' := 67) rfl dX0_tellsCells_65 rfl (ihN rfl) rfl ?_
  refine bplain (pc' := 68) rfl dX0_tellsCells_67 rfl (ihN rfl) rfl ?_
  refine bplain (pc' := 69) rfl dX0_tellsCells_68 rfl (ihN rfl) rfl ?_
  refine bplain (pc' := 70) rfl dX0_tellsCells_69 rfl (ihN rfl) rfl ?_
  refine bplain (pc' := 71) rfl dX0_tellsCells_70 rfl (ihN rfl) rfl ?_
  refine bplain (pc' := 73) rfl dX0_tellsCells_71 rfl (ihN rfl) rfl ?_
  refine bplain (pc' := 74) rfl dX0_tellsCells_73 rfl (ihN rfl) rfl ?_
  refine bthr (pc' := 77) rfl dX0_tellsCells_74 rfl (lkf0 q1118 lf_270) (trivial) (ihN rfl) rfl ?_
  refine bcall (pc' := 80) rfl dX0_tellsCells_77 rfl (trivial) (lcv (n := 4) rfl (pvc (lfv mt_X0_lastOf ⟨by decide, by decide⟩ mok_X0_lastOf ⟨by decide, by decide⟩ ⟨q2334, ln_453, Or.inl ⟨q2332, Or.inl qs36⟩⟩) (trivial)) (Or.inl (by decide))) (ihN rfl) rfl ?_
  refine bplain (pc' := 81) rfl dX0_tellsCells_80 rfl (ihN rfl) rfl ?_
  refine bplain (pc' := 82) rfl dX0_tellsCells_81 rfl (ihN rfl) rfl ?_
  refine bplain (pc' := 84) rfl dX0_tellsCells_82 rfl (ihN rfl) rfl ?_
  refine bobj (pc' := 87) rfl dX0_tellsCells_84 rfl (lkq0 lc_573 q2577) (ihN rfl) rfl ?_
  refine bplain (pc' := 89) rfl dX0_tellsCells_87 rfl (ihN rfl) rfl ?_
  refine bplain (pc' := 90) rfl dX0_tellsCells_89 rfl (ihN rfl) rfl ?_
  refine bplain (pc' := 91) rfl dX0_tellsCells_90 rfl (ihN rfl) rfl ?_
  refine bplain (pc' := 92) rfl dX0_tellsCells_91 rfl (ihN rfl) rfl ?_
  refine bplain (pc' := 93) rfl dX0_tellsCells_92 rfl (ihN rfl) rfl ?_
  refine bplain (pc' := 95) rfl dX0_tellsCells_93 rfl (ihN rfl) rfl ?_
  refine bplain (pc' := 96) rfl dX0_tellsCells_95 rfl (ihN rfl) rfl ?_
  refine bthr (pc' := 99) rfl dX0_tellsCells_96 rfl (lkf0 q1118 lf_270) (trivial) (ihN rfl) rfl ?_
  refine bcall (pc' := 102) rfl dX0_tellsCells_99 rfl (trivial) (lcv (n := 4) rfl (pvc (lfv mt_X0_lastOf ⟨by decide, by decide⟩ mok_X0_lastOf ⟨by decide, by decide⟩ ⟨q2334, ln_453, Or.inl ⟨q2332, Or.inl qs36⟩⟩) (trivial)) (Or.inl (by decide))) (ihN rfl) rfl ?_
  refine bplain (pc' := 103) rfl dX0_tellsCells_102 rfl (ihN rfl) rfl ?_
  refine bplain (pc' := 104) rfl dX0_tellsCells_103 rfl (ihN rfl) rfl ?_
  refine bplain (pc' := 106) rfl dX0_tellsCells_104 rfl (ihN rfl) rfl ?_
  refine bplain (pc' := 109) rfl dX0_tellsCells_106 rfl (ihN rfl) rfl ?_
  refine bjmp (tg := 6) (pc' := 112) rfl (by decide) (by decide) rfl dX0_tellsCells_109 rfl (ihN rfl) rfl ?_
  exact trivial
theorem bf_X0_tellsCells_112 : BOKt mt tX0_tellsCells 407 112 b_X0_tellsCells_112 := by
  refine bplain (pc' := 114) rfl dX0_tellsCells_112 rfl (ihN rfl) rfl ?_
  refine bret (pc' := 115) rfl dX0_tellsCells_114 rfl (rfl) (ihN rfl) rfl ?_
  exact trivial
theorem tf_X0_tellsCells : ∀ x ∈ tb_X0_tellsCells, BOK mt 407 x.1 x.2 := tb_c mt_X0_tellsCells bf_X0_tellsCells_0 (tb_c mt_X0_tellsCells bf_X0_tellsCells_6 (tb_c mt_X0_tellsCells bf_X0_tellsCells_112 (tb_n)))
theorem bf_X0_digest_0 : BOKt mt tX0_digest 408 0 b_X0_digest_0 := by
  refine bobj (pc' := 3) rfl dX0_digest_0 rfl (lkq0 lc_574 q2576) (ihN rfl) rfl ?_
  refine bplain (pc' := 4) rfl dX0_digest_3 rfl (ihN rfl) rfl ?_
  refine bplain (pc' := 5) rfl dX0_digest_4 rfl (ihN rfl) rfl ?_
  refine bplain (pc' := 6) rfl dX0_digest_5 rfl (ihN rfl) rfl ?_
  exact bnop0 rfl (by decide)
theorem bf_X0_digest_6 : BOKt mt tX0_digest 408 6 b_X0_digest_6 := by
  refine bplain (pc' := 7) rfl dX0_digest_6 rfl (ihN rfl) rfl ?_
  refine bplain (pc' := 9) rfl dX0_digest_7 rfl (ihN rfl) rfl ?_
  refine bjmp (tg := 31) (pc' := 12) rfl (by decide) (by decide) rfl dX0_digest_9 rfl (ihN rfl) rfl ?_
  refine bobj (pc' := 15) rfl dX0_digest_12 rfl (lkq0 lc_573 q2577) (ihN rfl) rfl ?_
  refine bplain (pc' := 16) rfl dX0_digest_15 rfl (ihN rfl) rfl ?_
  refine bplain (pc' := 17) rfl dX0_digest_16 rfl (ihN rfl) rfl ?_
  refine bplain (pc' := 18) rfl dX0_digest_17 rfl (ihN rfl) rfl ?_
  refine bplain (pc' := 19) rfl dX0_digest_18 rfl (ihN rfl) rfl ?_
  refine bcall (pc' := 22) rfl dX0_digest_19 rfl (trivial) (lcv (n := 1) rfl (pvc (lfv mt_X0_count ⟨by decide, by decide⟩ mok_X0_count ⟨by decide, by decide⟩ ⟨q2561, ln_225, Or.inl ⟨q2578, Or.inl q2562⟩⟩) (trivial)) (Or.inl (by decide))) (ihN rfl) rfl ?_
  refine bplain (pc' := 23) rfl dX0_digest_22 rfl (ihN rfl) rfl ?_
  refine bplain (pc' := 24) rfl dX0_digest_23 rfl (ihN rfl) rfl ?_
  refine bplain (pc' := 25) rfl dX0_digest_24 rfl (ihN rfl) rfl ?_
  refine bplain (pc' := 28) rfl dX0_digest_25 rfl (ihN rfl) rfl ?_
  refine bjmp (tg := 6) (pc' := 31) rfl (by decide) (by decide) rfl dX0_digest_28 rfl (ihN rfl) rfl ?_
  exact trivial
theorem bf_X0_digest_31 : BOKt mt tX0_digest 408 31 b_X0_digest_31 := by
  refine bplain (pc' := 32) rfl dX0_digest_31 rfl (ihN rfl) rfl ?_
  refine bplain (pc' := 33) rfl dX0_digest_32 rfl (ihN rfl) rfl ?_
  exact bnop0 rfl (by decide)
theorem bf_X0_digest_33 : BOKt mt tX0_digest 408 33 b_X0_digest_33 := by
  refine bplain (pc' := 34) rfl dX0_digest_33 rfl (ihN rfl) rfl ?_
  refine bplain (pc' := 35) rfl dX0_digest_34 rfl (ihN rfl) rfl ?_
  refine bthr (pc' := 38) rfl dX0_digest_35 rfl (lkf0 q1115 lf_116) (trivial) (ihN rfl) rfl ?_
  refine bcall (pc' := 41) rfl dX0_digest_38 rfl (trivial) (lcv (n := 0) rfl (pvc (lfv mt_J20_size ⟨by decide, by decide⟩ mok_J20_size ⟨by decide, by decide⟩ ⟨q1648, ln_40, Or.inl ⟨q1647, Or.inl q1649⟩⟩) (trivial)) (Or.inl (by decide))) (ihN rfl) rfl ?_
  refine bjmp (tg := 57) (pc' := 44) rfl (by decide) (by decide) rfl dX0_digest_41 rfl (ihN rfl) rfl ?_
  refine bplain (pc' := 45) rfl dX0_digest_44 rfl (ihN rfl) rfl ?_
  refine bplain (pc' := 46) rfl dX0_digest_45 rfl (ihN rfl) rfl ?_
  refine bplain (pc' := 47) rfl dX0_digest_46 rfl (ihN rfl) rfl ?_
  refine bcall (pc' := 50) rfl dX0_digest_47 rfl (trivial) (lcv (n := 2) rfl (pvc (lfv mt_X0_tellsOf ⟨by decide, by decide⟩ mok_X0_tellsOf ⟨by decide, by decide⟩ ⟨q2581, ln_575, Or.inl ⟨q2579, Or.inl qs60⟩⟩) (trivial)) (Or.inl (by decide))) (ihN rfl) rfl ?_
  refine bplain (pc' := 51) rfl dX0_digest_50 rfl (ihN rfl) rfl ?_
  refine bplain (pc' := 54) rfl dX0_digest_51 rfl (ihN rfl) rfl ?_
  refine bjmp (tg := 33) (pc' := 57) rfl (by decide) (by decide) rfl dX0_digest_54 rfl (ihN rfl) rfl ?_
  exact trivial
theorem bf_X0_digest_57 : BOKt mt tX0_digest 408 57 b_X0_digest_57 := by
  refine bplain (pc' := 58) rfl dX0_digest_57 rfl (ihN rfl) rfl ?_
  refine bcall (pc' := 61) rfl dX0_digest_58 rfl (trivial) (lcv (n := 0) rfl (pvc (lfv mt_X0_knows ⟨by decide, by decide⟩ mok_X0_knows ⟨by decide, by decide⟩ ⟨q2223, ln_0, Or.inl ⟨q2221, Or.inl qs24⟩⟩) (trivial)) (Or.inl (by decide))) (ihN rfl) rfl ?_
  refine bplain (pc' := 62) rfl dX0_digest_61 rfl (ihN rfl) rfl ?_
  refine bplain (pc' := 63) rfl dX0_digest_62 rfl (ihN rfl) rfl ?_
  exact bnop0 rfl (by decide)
theorem bf_X0_digest_63 : BOKt mt tX0_digest 408 63 b_X0_digest_63 := by
  refine bplain (pc' := 64) rfl dX0_digest_63 rfl (ihN rfl) rfl ?_
  refine bplain (pc' := 66) rfl dX0_digest_64 rfl (ihN rfl) rfl ?_
  refine bjmp (tg := 82) (pc' := 69) rfl (by decide) (by decide) rfl dX0_digest_66 rfl (ihN rfl) rfl ?_
  refine bplain (pc' := 70) rfl dX0_digest_69 rfl (ihN rfl) rfl ?_
  refine bplain (pc' := 71) rfl dX0_digest_70 rfl (ihN rfl) rfl ?_
  refine bplain (pc' := 72) rfl dX0_digest_71 rfl (ihN rfl) rfl ?_
  refine bcall (pc' := 75) rfl dX0_digest_72 rfl (trivial) (lcv (n := 2) rfl (pvc (lfv mt_X0_tellsRow ⟨by decide, by decide⟩ mok_X0_tellsRow ⟨by decide, by decide⟩ ⟨q2585, ln_575, Or.inl ⟨q2583, Or.inl qs61⟩⟩) (trivial)) (Or.inl (by decide))) (ihN rfl) rfl ?_
  refine bplain (pc' := 76) rfl dX0_digest_75 rfl (ihN rfl) rfl ?_
  refine bplain (pc' := 79) rfl dX0_digest_76 rfl (ihN rfl) rfl ?_
  refine bjmp (tg := 63) (pc' := 82) rfl (by decide) (by decide) rfl dX0_digest_79 rfl (ihN rfl) rfl ?_
  exact trivial
theorem bf_X0_digest_82 : BOKt mt tX0_digest 408 82 b_X0_digest_82 := by
  refine bplain (pc' := 83) rfl dX0_digest_82 rfl (ihN rfl) rfl ?_
  refine bplain (pc' := 84) rfl dX0_digest_83 rfl (ihN rfl) rfl ?_
  exact bnop0 rfl (by decide)
theorem bf_X0_digest_84 : BOKt mt tX0_digest 408 84 b_X0_digest_84 := by
  refine bplain (pc' := 85) rfl dX0_digest_84 rfl (ihN rfl) rfl ?_
  refine bplain (pc' := 87) rfl dX0_digest_85 rfl (ihN rfl) rfl ?_
  refine bjmp (tg := 112) (pc' := 90) rfl (by decide) (by decide) rfl dX0_digest_87 rfl (ihN rfl) rfl ?_
  refine bplain (pc' := 91) rfl dX0_digest_90 rfl (ihN rfl) rfl ?_
  refine bthr (pc' := 94) rfl dX0_digest_91 rfl (lkf0 q1112 lf_113) (trivial) (ihN rfl) rfl ?_
  refine bplain (pc' := 95) rfl dX0_digest_94 rfl (ihN rfl) rfl ?_
  refine bplain (pc' := 96) rfl dX0_digest_95 rfl (ihN rfl) rfl ?_
  refine bjmp (tg := 106) (pc' := 99) rfl (by decide) (by decide) rfl dX0_digest_96 rfl (ihN rfl) rfl ?_
  refine bplain (pc' := 100) rfl dX0_digest_99 rfl (ihN rfl) rfl ?_
  refine bplain (pc' := 101) rfl dX0_digest_100 rfl (ihN rfl) rfl ?_
  refine bplain (pc' := 102) rfl dX0_digest_101 rfl (ihN rfl) rfl ?_
  refine bcall (pc' := 105) rfl dX0_digest_102 rfl (trivial) (lcv (n := 2) rfl (pvc (lfv mt_X0_tellsCells ⟨by decide, by decide⟩ mok_X0_tellsCells ⟨by decide, by decide⟩ ⟨q2589, ln_575, Or.inl ⟨q2587, Or.inl qs62⟩⟩) (trivial)) (Or.inl (by decide))) (ihN rfl) rfl ?_
  refine bplain (pc' := 106) rfl dX0_digest_105 rfl (ihN rfl) rfl ?_
  exact bnop0 rfl (by decide)
theorem bf_X0_digest_106 : BOKt mt tX0_digest 408 106 b_X0_digest_106 := by
  refine bplain (pc' := 109) rfl dX0_digest_106 rfl (ihN rfl) rfl ?_
  refine bjmp (tg := 84) (pc' := 112) rfl (by decide) (by decide) rfl dX0_digest_109 rfl (ihN rfl) rfl ?_
  exact trivial
theorem bf_X0_digest_112 : BOKt mt tX0_digest 408 112 b_X0_digest_112 := by
  refine bplain (pc' := 113) rfl dX0_digest_112 rfl (ihN rfl) rfl ?_
  refine bplain (pc' := 114) rfl dX0_digest_113 rfl (ihN rfl) rfl ?_
  exact bnop0 rfl (by decide)
theorem bf_X0_digest_114 : BOKt mt tX0_digest 408 114 b_X0_digest_114 := by
  refine bplain (pc' := 115) rfl dX0_digest_114 rfl (ihN rfl) rfl ?_
  refine bplain (pc' := 116) rfl dX0_digest_115 rfl (ihN rfl) rfl ?_
  refine bjmp (tg := 139) (pc' := 119) rfl (by decide) (by decide) rfl dX0_digest_116 rfl (ihN rfl) rfl ?_
  refine bobj (pc' := 122) rfl dX0_digest_119 rfl (lkq0 lc_573 q2577) (ihN rfl) rfl ?_
  refine bplain (pc' := 123) rfl dX0_digest_122 rfl (ihN rfl) rfl ?_
  refine bplain (pc' := 124) rfl dX0_digest_123 rfl (ihN rfl) rfl ?_
  refine bplain (pc' := 125) rfl dX0_digest_124 rfl (ihN rfl) rfl ?_
  refine bthr (pc' := 128) rfl dX0_digest_125 rfl (lkf0 q1132 lf_135) (trivial) (ihN rfl) rfl ?_
  refine bplain (pc' := 129) rfl dX0_digest_128 rfl (ihN rfl) rfl ?_
  refine bplain (pc' := 130) rfl dX0_digest_129 rfl (ihN rfl) rfl ?_
  refine bplain (pc' := 131) rfl dX0_digest_130 rfl (ihN rfl) rfl ?_
  refine bplain (pc' := 132) rfl dX0_digest_131 rfl (ihN rfl) rfl ?_
  refine bplain (pc' := 133) rfl dX0_digest_132 rfl (ihN rfl) rfl ?_
  refine bplain (pc' := 136) rfl dX0_digest_133 rfl (ihN rfl) rfl ?_
  refine bjmp (tg := 114) (pc' := 139) rfl (by decide) (by decide) rfl dX0_digest_136 rfl (ihN rfl) rfl ?_
  exact trivial
theorem bf_X0_digest_139 : BOKt mt tX0_digest 408 139 b_X0_digest_139 := by
  refine bplain (pc' := 140) rfl dX0_digest_139 rfl (ihN rfl) rfl ?_
  refine bplain (pc' := 141) rfl dX0_digest_140 rfl (ihN rfl) rfl ?_
  exact bnop0 rfl (by decide)
theorem bf_X0_digest_141 : BOKt mt tX0_digest 408 141 b_X0_digest_141 := by
  refine bplain (pc' := 142) rfl dX0_digest_141 rfl (ihN rfl) rfl ?_
  refine bplain (pc' := 144) rfl dX0_digest_142 rfl (ihN rfl) rfl ?_
  refine bjmp (tg := 166) (pc' := 147) rfl (by decide) (by decide) rfl dX0_digest_144 rfl (ihN rfl) rfl ?_
  refine bobj (pc' := 150) rfl dX0_digest_147 rfl (lkq0 lc_573 q2577) (ihN rfl) rfl ?_
  refine bplain (pc' := 151) rfl dX0_digest_150 rfl (ihN rfl) rfl ?_
  refine bplain (pc' := 152) rfl dX0_digest_151 rfl (ihN rfl) rfl ?_
  refine bplain (pc' := 153) rfl dX0_digest_152 rfl (ihN rfl) rfl ?_
  refine bplain (pc' := 154) rfl dX0_digest_153 rfl (ihN rfl) rfl ?_
  refine bcall (pc' := 157) rfl dX0_digest_154 rfl (trivial) (lcv (n := 1) rfl (pvc (lfv mt_X0_endedBy ⟨by decide, by decide⟩ mok_X0_endedBy ⟨by decide, by decide⟩ ⟨q2554, ln_225, Or.inl ⟨q2552, Or.inl qs57⟩⟩) (trivial)) (Or.inl (by decide))) (ihN rfl) rfl ?_
  refine bplain (pc' := 158) rfl dX0_digest_157 rfl (ihN rfl) rfl ?_
  refine bplain (pc' := 159) rfl dX0_digest_158 rfl (ihN rfl) rfl ?_
  refine bplain (pc' := 160) rfl dX0_digest_159 rfl (ihN rfl) rfl ?_
  refine bplain (pc' := 163) rfl dX0_digest_160 rfl (ihN rfl) rfl ?_
  refine bjmp (tg := 141) (pc' := 166) rfl (by decide) (by decide) rfl dX0_digest_163 rfl (ihN rfl) rfl ?_
  exact trivial
theorem bf_X0_digest_166 : BOKt mt tX0_digest 408 166 b_X0_digest_166 := by
  refine bplain (pc' := 167) rfl dX0_digest_166 rfl (ihN rfl) rfl ?_
  refine bret (pc' := 168) rfl dX0_digest_167 rfl (rfl) (ihN rfl) rfl ?_
  exact trivial
theorem tf_X0_digest : ∀ x ∈ tb_X0_digest, BOK mt 408 x.1 x.2 := tb_c mt_X0_digest bf_X0_digest_0 (tb_c mt_X0_digest bf_X0_digest_6 (tb_c mt_X0_digest bf_X0_digest_31 (tb_c mt_X0_digest bf_X0_digest_33 (tb_c mt_X0_digest bf_X0_digest_57 (tb_c mt_X0_digest bf_X0_digest_63 (tb_c mt_X0_digest bf_X0_digest_82 (tb_c mt_X0_digest bf_X0_digest_84 (tb_c mt_X0_digest bf_X0_digest_106 (tb_c mt_X0_digest bf_X0_digest_112 (tb_c mt_X0_digest bf_X0_digest_114 (tb_c mt_X0_digest bf_X0_digest_139 (tb_c mt_X0_digest bf_X0_digest_141 (tb_c mt_X0_digest bf_X0_digest_166 (tb_n))))))))))))))
theorem bf_X3_statementDigest_0 : BOKt mt tX3_statementDigest 409 0 b_X3_statementDigest_0 := by
  refine bplain (pc' := 1) rfl dX3_statementDigest_0 rfl (ihN rfl) rfl ?_
  refine bplain (pc' := 3) rfl dX3_statementDigest_1 rfl (ihN rfl) rfl ?_
  refine bplain (pc' := 4) rfl dX3_statementDigest_3 rfl (ihN rfl) rfl ?_
  refine bplain (pc' := 6) rfl dX3_statementDigest_4 rfl (ihN rfl) rfl ?_
  exact bnop0 rfl (by decide)
theorem bf_X3_statementDigest_6 : BOKt mt tX3_statementDigest 409 6 b_X3_statementDigest_6 := by
  refine bnop1 ?_
  refine bplain (pc' := 8) rfl dX3_statementDigest_6 rfl (ihN rfl) rfl ?_
  refine bplain (pc' := 10) rfl dX3_statementDigest_8 rfl (ihN rfl) rfl ?_
  refine bjmp (tg := 36) (pc' := 13) rfl (by decide) (by decide) rfl dX3_statementDigest_10 rfl (ihN rfl) rfl ?_
  refine bobj (pc' := 16) rfl dX3_statementDigest_13 rfl (lkq0 lc_573 q3187) (ihN rfl) rfl ?_
  refine bplain (pc' := 18) rfl dX3_statementDigest_16 rfl (ihN rfl) rfl ?_
  refine bplain (pc' := 19) rfl dX3_statementDigest_18 rfl (ihN rfl) rfl ?_
  refine bplain (pc' := 20) rfl dX3_statementDigest_19 rfl (ihN rfl) rfl ?_
  refine bplain (pc' := 21) rfl dX3_statementDigest_20 rfl (ihN rfl) rfl ?_
  refine bplain (pc' := 23) rfl dX3_statementDigest_21 rfl (ihN rfl) rfl ?_
  refine bcall (pc' := 26) rfl dX3_statementDigest_23 rfl (trivial) (lcv (n := 2) rfl (pvc (lfv mt_X3_infoOf ⟨by decide, by decide⟩ mok_X3_infoOf ⟨by decide, by decide⟩ ⟨q2846, ln_252, Or.inl ⟨q2844, Or.inl qs70⟩⟩) (trivial)) (Or.inl (by decide))) (ihN rfl) rfl ?_
  refine bplain (pc' := 27) rfl dX3_statementDigest_26 rfl (ihN rfl) rfl ?_
  refine bplain (pc' := 28) rfl dX3_statementDigest_27 rfl (ihN rfl) rfl ?_
  refine bplain (pc' := 30) rfl dX3_statementDigest_28 rfl (ihN rfl) rfl ?_
  refine bplain (pc' := 33) rfl dX3_statementDigest_30 rfl (ihN rfl) rfl ?_
  refine bjmp (tg := 6) (pc' := 36) rfl (by decide) (by decide) rfl dX3_statementDigest_33 rfl (ihN rfl) rfl ?_
  exact trivial
theorem bf_X3_statementDigest_36 : BOKt mt tX3_statementDigest 409 36 b_X3_statementDigest_36 := by
  refine bplain (pc' := 37) rfl dX3_statementDigest_36 rfl (ihN rfl) rfl ?_
  refine bplain (pc' := 38) rfl dX3_statementDigest_37 rfl (ihN rfl) rfl ?_
  refine bplain (pc' := 39) rfl dX3_statementDigest_38 rfl (ihN rfl) rfl ?_
  refine bplain (pc' := 41) rfl dX3_statementDigest_39 rfl (ihN rfl) rfl ?_
  exact bnop0 rfl (by decide)
theorem bf_X3_statementDigest_41 : BOKt mt tX3_statementDigest 409 41 b_X3_statementDigest_41 := by
  refine bnop1 ?_
  refine bplain (pc' := 43) rfl dX3_statementDigest_41 rfl (ihN rfl) rfl ?_
  refine bplain (pc' := 44) rfl dX3_statementDigest_43 rfl (ihN rfl) rfl ?_
  refine bplain (pc' := 45) rfl dX3_statementDigest_44 rfl (ihN rfl) rfl ?_
  refine bplain (pc' := 46) rfl dX3_statementDigest_45 rfl (ihN rfl) rfl ?_
  refine bplain (pc' := 47) rfl dX3_statementDigest_46 rfl (ihN rfl) rfl ?_
  refine bplain (pc' := 48) rfl dX3_statementDigest_47 rfl (ihN rfl) rfl ?_
  refine bjmp (tg := 142) (pc' := 51) rfl (by decide) (by decide) rfl dX3_statementDigest_48 rfl (ihN rfl) rfl ?_
  refine bplain (pc' := 52) rfl dX3_statementDigest_51 rfl (ihN rfl) rfl ?_
  refine bplain (pc' := 54) rfl dX3_statementDigest_52 rfl (ihN rfl) rfl ?_
  exact bnop0 rfl (by decide)
theorem bf_X3_statementDigest_54 : BOKt mt tX3_statementDigest 409 54 b_X3_statementDigest_54 := by
  refine bnop1 ?_
  refine bplain (pc' := 56) rfl dX3_statementDigest_54 rfl (ihN rfl) rfl ?_
  refine bplain (pc' := 57) rfl dX3_statementDigest_56 rfl (ihN rfl) rfl ?_
  refine bjmp (tg := 84) (pc' := 60) rfl (by decide) (by decide) rfl dX3_statementDigest_57 rfl (ihN rfl) rfl ?_
  refine bobj (pc' := 63) rfl dX3_statementDigest_60 rfl (lkq0 lc_573 q3187) (ihN rfl) rfl ?_
  refine bplain (pc' := 65) rfl dX3_statementDigest_63 rfl (ihN rfl) rfl ?_
  refine bplain (pc' := 66) rfl dX3_statementDigest_65 rfl (ihN rfl) rfl ?_
  refine bplain (pc' := 67) rfl dX3_statementDigest_66 rfl (ihN rfl) rfl ?_
  refine bplain (pc' := 69) rfl dX3_statementDigest_67 rfl (ihN rfl) rfl ?_
  refine bplain (pc' := 71) rfl dX3_statementDigest_69 rfl (ihN rfl) rfl ?_
  refine bcall (pc' := 74) rfl dX3_statementDigest_71 rfl (trivial) (lcv (n := 2) rfl (pvc (lfv mt_X3_referenceOf ⟨by decide, by decide⟩ mok_X3_referenceOf ⟨by decide, by decide⟩ ⟨q2873, ln_252, Or.inl ⟨q2871, Or.inl qs75⟩⟩) (trivial)) (Or.inl (by decide))) (ihN rfl) rfl ?_
  refine bplain (pc' := 75) rfl dX3_statementDigest_74 rfl (ihN rfl) rfl ?_
  refine bplain (pc' := 76) rfl dX3_statementDigest_75 rfl (ihN rfl) rfl ?_
  refine bplain (pc' := 78) rfl dX3_statementDigest_76 rfl (ihN rfl) rfl ?_
  refine bplain (pc' := 81) rfl dX3_statementDigest_78 rfl (ihN rfl) rfl ?_
  refine bjmp (tg := 54) (pc' := 84) rfl (by decide) (by decide) rfl dX3_statementDigest_81 rfl (ihN rfl) rfl ?_
  exact trivial
theorem bf_X3_statementDigest_84 : BOKt mt tX3_statementDigest 409 84 b_X3_statementDigest_84 := by
  refine bplain (pc' := 85) rfl dX3_statementDigest_84 rfl (ihN rfl) rfl ?_
  refine bplain (pc' := 87) rfl dX3_statementDigest_85 rfl (ihN rfl) rfl ?_
  exact bnop0 rfl (by decide)
theorem bf_X3_statementDigest_87 : BOKt mt tX3_statementDigest 409 87 b_X3_statementDigest_87 := by
  refine bnop1 ?_
  refine bplain (pc' := 89) rfl dX3_statementDigest_87 rfl (ihN rfl) rfl ?_
  refine bplain (pc' := 90) rfl dX3_statementDigest_89 rfl (ihN rfl) rfl ?_
  refine bjmp (tg := 136) (pc' := 93) rfl (by decide) (by decide) rfl dX3_statementDigest_90 rfl (ihN rfl) rfl ?_
  refine bplain (pc' := 94) rfl dX3_statementDigest_93 rfl (ihN rfl) rfl ?_
  refine bthr (pc' := 97) rfl dX3_statementDigest_94 rfl (lkf0 q2610 lf_165) (trivial) (ihN rfl) rfl ?_
  refine bplain (pc' := 99) rfl dX3_statementDigest_97 rfl (ihN rfl) rfl ?_
  refine bplain (pc' := 100) rfl dX3_statementDigest_99 rfl (ihN rfl) rfl ?_
  refine bplain (pc' := 101) rfl dX3_statementDigest_100 rfl (ihN rfl) rfl ?_
  refine bjmp (tg := 136) (pc' := 104) rfl (by decide) (by decide) rfl dX3_statementDigest_101 rfl (ihN rfl) rfl ?_
  refine bplain (pc' := 105) rfl dX3_statementDigest_104 rfl (ihN rfl) rfl ?_
  refine bthr (pc' := 108) rfl dX3_statementDigest_105 rfl (lkf0 q2603 lf_274) (trivial) (ihN rfl) rfl ?_
  refine bjmp (tg := 136) (pc' := 111) rfl (by decide) (by decide) rfl dX3_statementDigest_108 rfl (ihN rfl) rfl ?_
  refine bobj (pc' := 114) rfl dX3_statementDigest_111 rfl (lkq0 lc_573 q3187) (ihN rfl) rfl ?_
  refine bplain (pc' := 116) rfl dX3_statementDigest_114 rfl (ihN rfl) rfl ?_
  refine bplain (pc' := 117) rfl dX3_statementDigest_116 rfl (ihN rfl) rfl ?_
  refine bplain (pc' := 118) rfl dX3_statementDigest_117 rfl (ihN rfl) rfl ?_
  refine bplain (pc' := 120) rfl dX3_statementDigest_118 rfl (ihN rfl) rfl ?_
  refine bplain (pc' := 121) rfl dX3_statementDigest_120 rfl (ihN rfl) rfl ?_
  refine bplain (pc' := 123) rfl dX3_statementDigest_121 rfl (ihN rfl) rfl ?_
  refine bcall (pc' := 126) rfl dX3_statementDigest_123 rfl (trivial) (lcv (n := 3) rfl (pvc (lfv mt_X3_sectionOf ⟨by decide, by decide⟩ mok_X3_sectionOf ⟨by decide, by decide⟩ ⟨q2885, ln_255, Or.inl ⟨q2883, Or.inl qs77⟩⟩) (trivial)) (Or.inl (by decide))) (ihN rfl) rfl ?_
  refine bplain (pc' := 127) rfl dX3_statementDigest_126 rfl (ihN rfl) rfl ?_
  refine bplain (pc' := 128) rfl dX3_statementDigest_127 rfl (ihN rfl) rfl ?_
  refine bplain (pc' := 130) rfl dX3_statementDigest_128 rfl (ihN rfl) rfl ?_
  refine bplain (pc' := 133) rfl dX3_statementDigest_130 rfl (ihN rfl) rfl ?_
  refine bjmp (tg := 87) (pc' := 136) rfl (by decide) (by decide) rfl dX3_statementDigest_133 rfl (ihN rfl) rfl ?_
  exact trivial
theorem bf_X3_statementDigest_136 : BOKt mt tX3_statementDigest 409 136 b_X3_statementDigest_136 := by
  refine bnop1 ?_
  refine bplain (pc' := 139) rfl dX3_statementDigest_136 rfl (ihN rfl) rfl ?_
  refine bjmp (tg := 41) (pc' := 142) rfl (by decide) (by decide) rfl dX3_statementDigest_139 rfl (ihN rfl) rfl ?_
  exact trivial
theorem bf_X3_statementDigest_142 : BOKt mt tX3_statementDigest 409 142 b_X3_statementDigest_142 := by
  refine bplain (pc' := 143) rfl dX3_statementDigest_142 rfl (ihN rfl) rfl ?_
  refine bplain (pc' := 145) rfl dX3_statementDigest_143 rfl (ihN rfl) rfl ?_
  exact bnop0 rfl (by decide)
theorem bf_X3_statementDigest_145 : BOKt mt tX3_statementDigest 409 145 b_X3_statementDigest_145 := by
  refine bnop1 ?_
  refine bplain (pc' := 147) rfl dX3_statementDigest_145 rfl (ihN rfl) rfl ?_
  refine bplain (pc' := 149) rfl dX3_statementDigest_147 rfl (ihN rfl) rfl ?_
  refine bjmp (tg := 175) (pc' := 152) rfl (by decide) (by decide) rfl dX3_statementDigest_149 rfl (ihN rfl) rfl ?_
  refine bobj (pc' := 155) rfl dX3_statementDigest_152 rfl (lkq0 lc_573 q3187) (ihN rfl) rfl ?_
  refine bplain (pc' := 157) rfl dX3_statementDigest_155 rfl (ihN rfl) rfl ?_
  refine bplain (pc' := 158) rfl dX3_statementDigest_157 rfl (ihN rfl) rfl ?_
  refine bplain (pc' := 159) rfl dX3_statementDigest_158 rfl (ihN rfl) rfl ?_
  refine bplain (pc' := 160) rfl dX3_statementDigest_159 rfl (ihN rfl) rfl ?_
  refine bplain (pc' := 162) rfl dX3_statementDigest_160 rfl (ihN rfl) rfl ?_
  refine bcall (pc' := 165) rfl dX3_statementDigest_162 rfl (trivial) (lcv (n := 2) rfl (pvc (lfv mt_X3_findsKinds ⟨by decide, by decide⟩ mok_X3_findsKinds ⟨by decide, by decide⟩ ⟨q2921, ln_252, Or.inl ⟨q2919, Or.inl qs84⟩⟩) (trivial)) (Or.inl (by decide))) (ihN rfl) rfl ?_
  refine bplain (pc' := 166) rfl dX3_statementDigest_165 rfl (ihN rfl) rfl ?_
  refine bplain (pc' := 167) rfl dX3_statementDigest_166 rfl (ihN rfl) rfl ?_
  refine bplain (pc' := 169) rfl dX3_statementDigest_167 rfl (ihN rfl) rfl ?_
  refine bplain (pc' := 172) rfl dX3_statementDigest_169 rfl (ihN rfl) rfl ?_
  refine bjmp (tg := 145) (pc' := 175) rfl (by decide) (by decide) rfl dX3_statementDigest_172 rfl (ihN rfl) rfl ?_
  exact trivial
theorem bf_X3_statementDigest_175 : BOKt mt tX3_statementDigest 409 175 b_X3_statementDigest_175 := by
  refine bplain (pc' := 177) rfl dX3_statementDigest_175 rfl (ihN rfl) rfl ?_
  refine bret (pc' := 178) rfl dX3_statementDigest_177 rfl (rfl) (ihN rfl) rfl ?_
  exact trivial
theorem tf_X3_statementDigest : ∀ x ∈ tb_X3_statementDigest, BOK mt 409 x.1 x.2 := tb_c mt_X3_statementDigest bf_X3_statementDigest_0 (tb_c mt_X3_statementDigest bf_X3_statementDigest_6 (tb_c mt_X3_statementDigest bf_X3_statementDigest_36 (tb_c mt_X3_statementDigest bf_X3_statementDigest_41 (tb_c mt_X3_statementDigest bf_X3_statementDigest_54 (tb_c mt_X3_statementDigest bf_X3_statementDigest_84 (tb_c mt_X3_statementDigest bf_X3_statementDigest_87 (tb_c mt_X3_statementDigest bf_X3_statementDigest_136 (tb_c mt_X3_statementDigest bf_X3_statementDigest_142 (tb_c mt_X3_statementDigest bf_X3_statementDigest_145 (tb_c mt_X3_statementDigest bf_X3_statementDigest_175 (tb_n)))))))))))
theorem bf_X3_rowDigest_0 : BOKt mt tX3_rowDigest 410 0 b_X3_rowDigest_0 := by
  refine bobj (pc' := 3) rfl dX3_rowDigest_0 rfl (lkq0 lc_573 q3187) (ihN rfl) rfl ?_
  refine bplain (pc' := 4) rfl dX3_rowDigest_3 rfl (ihN rfl) rfl ?_
  refine bplain (pc' := 5) rfl dX3_rowDigest_4 rfl (ihN rfl) rfl ?_
  refine bplain (pc' := 6) rfl dX3_rowDigest_5 rfl (ihN rfl) rfl ?_
  refine bplain (pc' := 7) rfl dX3_rowDigest_6 rfl (ihN rfl) rfl ?_
  refine bcall (pc' := 10) rfl dX3_rowDigest_7 rfl (trivial) (lcv (n := 1) rfl (pvc (lfv mt_X3_verdictOf ⟨by decide, by decide⟩ mok_X3_verdictOf ⟨by decide, by decide⟩ ⟨q3007, ln_225, Or.inl ⟨q3005, Or.inl qs99⟩⟩) (trivial)) (Or.inl (by decide))) (ihN rfl) rfl ?_
  refine bplain (pc' := 11) rfl dX3_rowDigest_10 rfl (ihN rfl) rfl ?_
  refine bplain (pc' := 12) rfl dX3_rowDigest_11 rfl (ihN rfl) rfl ?_
  refine bplain (pc' := 14) rfl dX3_rowDigest_12 rfl (ihN rfl) rfl ?_
  refine bplain (pc' := 15) rfl dX3_rowDigest_14 rfl (ihN rfl) rfl ?_
  refine bplain (pc' := 17) rfl dX3_rowDigest_15 rfl (ihN rfl) rfl ?_
  exact bnop0 rfl (by decide)
theorem bf_X3_rowDigest_17 : BOKt mt tX3_rowDigest 410 17 b_X3_rowDigest_17 := by
  refine bnop1 ?_
  refine bplain (pc' := 19) rfl dX3_rowDigest_17 rfl (ihN rfl) rfl ?_
  refine bplain (pc' := 20) rfl dX3_rowDigest_19 rfl (ihN rfl) rfl ?_
  refine bjmp (tg := 46) (pc' := 23) rfl (by decide) (by decide) rfl dX3_rowDigest_20 rfl (ihN rfl) rfl ?_
  refine bobj (pc' := 26) rfl dX3_rowDigest_23 rfl (lkq0 lc_573 q3187) (ihN rfl) rfl ?_
  refine bplain (pc' := 28) rfl dX3_rowDigest_26 rfl (ihN rfl) rfl ?_
  refine bplain (pc' := 29) rfl dX3_rowDigest_28 rfl (ihN rfl) rfl ?_
  refine bplain (pc' := 30) rfl dX3_rowDigest_29 rfl (ihN rfl) rfl ?_
  refine bplain (pc' := 31) rfl dX3_rowDigest_30 rfl (ihN rfl) rfl ?_
  refine bplain (pc' := 33) rfl dX3_rowDigest_31 rfl (ihN rfl) rfl ?_
  refine bcall (pc' := 36) rfl dX3_rowDigest_33 rfl (trivial) (lcv (n := 2) rfl (pvc (lfv mt_X3_witnessOf ⟨by decide, by decide⟩ mok_X3_witnessOf ⟨by decide, by decide⟩ ⟨q3043, ln_252, Or.inl ⟨q3041, Or.inl qs106⟩⟩) (trivial)) (Or.inl (by decide))) (ihN rfl) rfl ?_
  refine bplain (pc' := 37) rfl dX3_rowDigest_36 rfl (ihN rfl) rfl ?_
  refine bplain (pc' := 38) rfl dX3_rowDigest_37 rfl (ihN rfl) rfl ?_
  refine bplain (pc' := 40) rfl dX3_rowDigest_38 rfl (ihN rfl) rfl ?_
  refine bplain (pc' := 43) rfl dX3_rowDigest_40 rfl (ihN rfl) rfl ?_
  refine bjmp (tg := 17) (pc' := 46) rfl (by decide) (by decide) rfl dX3_rowDigest_43 rfl (ihN rfl) rfl ?_
  exact trivial
theorem bf_X3_rowDigest_46 : BOKt mt tX3_rowDigest 410 46 b_X3_rowDigest_46 := by
  refine bplain (pc' := 47) rfl dX3_rowDigest_46 rfl (ihN rfl) rfl ?_
  refine bplain (pc' := 49) rfl dX3_rowDigest_47 rfl (ihN rfl) rfl ?_
  exact bnop0 rfl (by decide)
theorem bf_X3_rowDigest_49 : BOKt mt tX3_rowDigest 410 49 b_X3_rowDigest_49 := by
  refine bnop1 ?_
  refine bplain (pc' := 51) rfl dX3_rowDigest_49 rfl (ihN rfl) rfl ?_
  refine bplain (pc' := 52) rfl dX3_rowDigest_51 rfl (ihN rfl) rfl ?_
  refine bjmp (tg := 142) (pc' := 55) rfl (by decide) (by decide) rfl dX3_rowDigest_52 rfl (ihN rfl) rfl ?_
  refine bplain (pc' := 56) rfl dX3_rowDigest_55 rfl (ihN rfl) rfl ?_
  refine bplain (pc' := 58) rfl dX3_rowDigest_56 rfl (ihN rfl) rfl ?_
  refine bplain (pc' := 59) rfl dX3_rowDigest_58 rfl (ihN rfl) rfl ?_
  refine bplain (pc' := 60) rfl dX3_rowDigest_59 rfl (ihN rfl) rfl ?_
  refine bcall (pc' := 63) rfl dX3_rowDigest_60 rfl (trivial) (lcv (n := 3) rfl (pvc (lfv mt_X3_bitsOfSet ⟨by decide, by decide⟩ mok_X3_bitsOfSet ⟨by decide, by decide⟩ ⟨q2949, ln_255, Or.inl ⟨q2947, Or.inl qs89⟩⟩) (trivial)) (Or.inl (by decide))) (ihN rfl) rfl ?_
  refine bplain (pc' := 65) rfl dX3_rowDigest_63 rfl (ihN rfl) rfl ?_
  refine bobj (pc' := 68) rfl dX3_rowDigest_65 rfl (lkq0 lc_573 q3187) (ihN rfl) rfl ?_
  refine bplain (pc' := 70) rfl dX3_rowDigest_68 rfl (ihN rfl) rfl ?_
  refine bplain (pc' := 71) rfl dX3_rowDigest_70 rfl (ihN rfl) rfl ?_
  refine bplain (pc' := 73) rfl dX3_rowDigest_71 rfl (ihN rfl) rfl ?_
  refine bcall (pc' := 76) rfl dX3_rowDigest_73 rfl (trivial) (lcs (l := q2976) mt_X3_size ⟨by decide, by decide⟩ mok_X3_size rfl ln_225 (Or.inl q2975)) (ihN rfl) rfl ?_
  refine bplain (pc' := 77) rfl dX3_rowDigest_76 rfl (ihN rfl) rfl ?_
  refine bplain (pc' := 78) rfl dX3_rowDigest_77 rfl (ihN rfl) rfl ?_
  refine bplain (pc' := 80) rfl dX3_rowDigest_78 rfl (ihN rfl) rfl ?_
  refine bobj (pc' := 83) rfl dX3_rowDigest_80 rfl (lkq0 lc_573 q3187) (ihN rfl) rfl ?_
  refine bplain (pc' := 85) rfl dX3_rowDigest_83 rfl (ihN rfl) rfl ?_
  refine bplain (pc' := 86) rfl dX3_rowDigest_85 rfl (ihN rfl) rfl ?_
  refine bplain (pc' := 87) rfl dX3_rowDigest_86 rfl (ihN rfl) rfl ?_
  refine bplain (pc' := 89) rfl dX3_rowDigest_87 rfl (ihN rfl) rfl ?_
  refine bcall (pc' := 92) rfl dX3_rowDigest_89 rfl (trivial) (lcv (n := 1) rfl (pvc (lfv mt_X3_piecesOf ⟨by decide, by decide⟩ mok_X3_piecesOf ⟨by decide, by decide⟩ ⟨q2984, ln_225, Or.inl ⟨q2982, Or.inl qs96⟩⟩) (trivial)) (Or.inl (by decide))) (ihN rfl) rfl ?_
  refine bplain (pc' := 93) rfl dX3_rowDigest_92 rfl (ihN rfl) rfl ?_
  refine bplain (pc' := 94) rfl dX3_rowDigest_93 rfl (ihN rfl) rfl ?_
  refine bplain (pc' := 96) rfl dX3_rowDigest_94 rfl (ihN rfl) rfl ?_
  refine bplain (pc' := 97) rfl dX3_rowDigest_96 rfl (ihN rfl) rfl ?_
  refine bplain (pc' := 99) rfl dX3_rowDigest_97 rfl (ihN rfl) rfl ?_
  exact bnop0 rfl (by decide)
theorem bf_X3_rowDigest_99 : BOKt mt tX3_rowDigest 410 99 b_X3_rowDigest_99 := by
  refine bnop1 ?_
  refine bplain (pc' := 101) rfl dX3_rowDigest_99 rfl (ihN rfl) rfl ?_
  refine bplain (pc' := 102) rfl dX3_rowDigest_101 rfl (ihN rfl) rfl ?_
  refine bthr (pc' := 105) rfl dX3_rowDigest_102 rfl (lkf0 q2603 lf_274) (trivial) (ihN rfl) rfl ?_
  refine bjmp (tg := 136) (pc' := 108) rfl (by decide) (by decide) rfl dX3_rowDigest_105 rfl (ihN rfl) rfl ?_
  refine bobj (pc' := 111) rfl dX3_rowDigest_108 rfl (lkq0 lc_573 q3187) (ihN rfl) rfl ?_
  refine bplain (pc' := 113) rfl dX3_rowDigest_111 rfl (ihN rfl) rfl ?_
  refine bplain (pc' := 114) rfl dX3_rowDigest_113 rfl (ihN rfl) rfl ?_
  refine bplain (pc' := 115) rfl dX3_rowDigest_114 rfl (ihN rfl) rfl ?_
  refine bplain (pc' := 117) rfl dX3_rowDigest_115 rfl (ihN rfl) rfl ?_
  refine bplain (pc' := 118) rfl dX3_rowDigest_117 rfl (ihN rfl) rfl ?_
  refine bplain (pc' := 120) rfl dX3_rowDigest_118 rfl (ihN rfl) rfl ?_
  refine bcall (pc' := 123) rfl dX3_rowDigest_120 rfl (trivial) (lcv (n := 3) rfl (pvc (lfv mt_X3_bitsOfTurn ⟨by decide, by decide⟩ mok_X3_bitsOfTurn ⟨by decide, by decide⟩ ⟨q2973, ln_255, Or.inl ⟨q2971, Or.inl qs95⟩⟩) (trivial)) (Or.inl (by decide))) (ihN rfl) rfl ?_
  refine bcall (pc' := 126) rfl dX3_rowDigest_123 rfl (trivial) (lcs (l := q2976) mt_X3_size ⟨by decide, by decide⟩ mok_X3_size rfl ln_225 (Or.inl q2975)) (ihN rfl) rfl ?_
  refine bplain (pc' := 127) rfl dX3_rowDigest_126 rfl (ihN rfl) rfl ?_
  refine bplain (pc' := 128) rfl dX3_rowDigest_127 rfl (ihN rfl) rfl ?_
  refine bplain (pc' := 130) rfl dX3_rowDigest_128 rfl (ihN rfl) rfl ?_
  refine bplain (pc' := 133) rfl dX3_rowDigest_130 rfl (ihN rfl) rfl ?_
  refine bjmp (tg := 99) (pc' := 136) rfl (by decide) (by decide) rfl dX3_rowDigest_133 rfl (ihN rfl) rfl ?_
  exact trivial
theorem bf_X3_rowDigest_136 : BOKt mt tX3_rowDigest 410 136 b_X3_rowDigest_136 := by
  refine bplain (pc' := 139) rfl dX3_rowDigest_136 rfl (ihN rfl) rfl ?_
  refine bjmp (tg := 49) (pc' := 142) rfl (by decide) (by decide) rfl dX3_rowDigest_139 rfl (ihN rfl) rfl ?_
  exact trivial
theorem bf_X3_rowDigest_142 : BOKt mt tX3_rowDigest 410 142 b_X3_rowDigest_142 := by
  refine bplain (pc' := 144) rfl dX3_rowDigest_142 rfl (ihN rfl) rfl ?_
  refine bret (pc' := 145) rfl dX3_rowDigest_144 rfl (rfl) (ihN rfl) rfl ?_
  exact trivial
theorem tf_X3_rowDigest : ∀ x ∈ tb_X3_rowDigest, BOK mt 410 x.1 x.2 := tb_c mt_X3_rowDigest bf_X3_rowDigest_0 (tb_c mt_X3_rowDigest bf_X3_rowDigest_17 (tb_c mt_X3_rowDigest bf_X3_rowDigest_46 (tb_c mt_X3_rowDigest bf_X3_rowDigest_49 (tb_c mt_X3_rowDigest bf_X3_rowDigest_99 (tb_c mt_X3_rowDigest bf_X3_rowDigest_136 (tb_c mt_X3_rowDigest bf_X3_rowDigest_142 (tb_n)))))))
theorem bf_X3_cellsDigest_0 : BOKt mt tX3_cellsDigest 411 0 b_X3_cellsDigest_0 := by
  refine bplain (pc' := 1) rfl dX3_cellsDigest_0 rfl (ihN rfl) rfl ?_
  refine bplain (pc' := 3) rfl dX3_cellsDigest_1 rfl (ihN rfl) rfl ?_
  refine bplain (pc' := 4) rfl dX3_cellsDigest_3 rfl (ihN rfl) rfl ?_
  refine bplain (pc' := 6) rfl dX3_cellsDigest_4 rfl (ihN rfl) rfl ?_
  exact bnop0 rfl (by decide)
theorem bf_X3_cellsDigest_6 : BOKt mt tX3_cellsDigest 411 6 b_X3_cellsDigest_6 := by
  refine bnop1 ?_
  refine bplain (pc' := 8) rfl dX3_cellsDigest_6 rfl (ihN rfl) rfl ?_
  refine bplain (pc' := 9) rfl dX3_cellsDigest_8 rfl (ihN rfl) rfl ?_
  refine bthr (pc' := 12) rfl dX3_cellsDigest_9 rfl (lkf0 q2598 lf_147) (trivial) (ihN rfl) rfl ?_
  refine bplain (pc' := 13) rfl dX3_cellsDigest_12 rfl (ihN rfl) rfl ?_
  refine bplain (pc' := 14) rfl dX3_cellsDigest_13 rfl (ihN rfl) rfl ?_
  refine bjmp (tg := 111) (pc' := 17) rfl (by decide) (by decide) rfl dX3_cellsDigest_14 rfl (ihN rfl) rfl ?_
  refine bplain (pc' := 18) rfl dX3_cellsDigest_17 rfl (ihN rfl) rfl ?_
  refine bthr (pc' := 21) rfl dX3_cellsDigest_18 rfl (lkf0 q2597 lf_145) (trivial) (ihN rfl) rfl ?_
  refine bplain (pc' := 22) rfl dX3_cellsDigest_21 rfl (ihN rfl) rfl ?_
  refine bplain (pc' := 23) rfl dX3_cellsDigest_22 rfl (ihN rfl) rfl ?_
  refine bplain (pc' := 24) rfl dX3_cellsDigest_23 rfl (ihN rfl) rfl ?_
  refine bjmp (tg := 111) (pc' := 27) rfl (by decide) (by decide) rfl dX3_cellsDigest_24 rfl (ihN rfl) rfl ?_
  refine bobj (pc' := 30) rfl dX3_cellsDigest_27 rfl (lkq0 lc_573 q3187) (ihN rfl) rfl ?_
  refine bplain (pc' := 32) rfl dX3_cellsDigest_30 rfl (ihN rfl) rfl ?_
  refine bplain (pc' := 33) rfl dX3_cellsDigest_32 rfl (ihN rfl) rfl ?_
  refine bplain (pc' := 34) rfl dX3_cellsDigest_33 rfl (ihN rfl) rfl ?_
  refine bplain (pc' := 36) rfl dX3_cellsDigest_34 rfl (ihN rfl) rfl ?_
  refine bplain (pc' := 37) rfl dX3_cellsDigest_36 rfl (ihN rfl) rfl ?_
  refine bplain (pc' := 38) rfl dX3_cellsDigest_37 rfl (ihN rfl) rfl ?_
  refine bplain (pc' := 40) rfl dX3_cellsDigest_38 rfl (ihN rfl) rfl ?_
  refine bplain (pc' := 41) rfl dX3_cellsDigest_40 rfl (ihN rfl) rfl ?_
  refine bcall (pc' := 44) rfl dX3_cellsDigest_41 rfl (trivial) (lcv (n := 1) rfl (pvc (lfv mt_X3_toldOf ⟨by decide, by decide⟩ mok_X3_toldOf ⟨by decide, by decide⟩ ⟨q2777, ln_249, Or.inl ⟨q2775, Or.inl qs65⟩⟩) (trivial)) (Or.inl (by decide))) (ihN rfl) rfl ?_
  refine bplain (pc' := 45) rfl dX3_cellsDigest_44 rfl (ihN rfl) rfl ?_
  refine bplain (pc' := 47) rfl dX3_cellsDigest_45 rfl (ihN rfl) rfl ?_
  refine bobj (pc' := 50) rfl dX3_cellsDigest_47 rfl (lkq0 lc_573 q3187) (ihN rfl) rfl ?_
  refine bplain (pc' := 52) rfl dX3_cellsDigest_50 rfl (ihN rfl) rfl ?_
  refine bplain (pc' := 53) rfl dX3_cellsDigest_52 rfl (ihN rfl) rfl ?_
  refine bplain (pc' := 54) rfl dX3_cellsDigest_53 rfl (ihN rfl) rfl ?_
  refine bthr (pc' := 57) rfl dX3_cellsDigest_54 rfl (lkf0 q2600 lf_151) (trivial) (ihN rfl) rfl ?_
  refine bplain (pc' := 59) rfl dX3_cellsDigest_57 rfl (ihN rfl) rfl ?_
  refine bplain (pc' := 60) rfl dX3_cellsDigest_59 rfl (ihN rfl) rfl ?_
  refine bplain (pc' := 61) rfl dX3_cellsDigest_60 rfl (ihN rfl) rfl ?_
  refine bplain (pc' := 63) rfl dX3_cellsDigest_61 rfl (ihN rfl) rfl ?_
  refine bplain (pc' := 64) rfl dX3_cellsDigest_63 rfl (ihN rfl) rfl ?_
  refine bplain (pc' := 65) rfl dX3_cellsDigest_64 rfl (ihN rfl) rfl ?_
  refine bplain (pc' := 66) rfl dX3_cellsDigest_65 rfl (ihN rfl) rfl ?_
  refine bplain (pc' := 67) rfl dX3_cellsDigest_66 rfl (ihN rfl) rfl ?_
  refine bplain (pc' := 69) rfl dX3_cellsDigest_67 rfl (ihN rfl) rfl ?_
  refine bobj (pc' := 72) rfl dX3_cellsDigest_69 rfl (lkq0 lc_573 q3187) (ihN rfl) rfl ?_
  refine bplain (pc' := 74) rfl dX3_cellsDigest_72 rfl (ihN rfl) rfl ?_
  refine bplain (pc' := 75) rfl dX3_cellsDigest_74 rfl (ihN rfl) rfl ?_
  refine bplain (pc' := 76) rfl dX3_cellsDigest_75 rfl (ihN rfl) rfl ?_
  refine bplain (pc' := 77) rfl dX3_cellsDigest_76 rfl (ihN rfl) rfl ?_
  refine bplain (pc' := 78) rfl dX3_cellsDigest_77 rfl (ihN rfl) rfl ?_
  refine bplain (pc' := 80) rfl dX3_cellsDigest_78 rfl (ihN rfl) rfl ?_
  refine bcall (pc' := 83) rfl dX3_cellsDigest_80 rfl (trivial) (lcv (n := 3) rfl (pvc (lfv mt_X3_lastOf ⟨by decide, by decide⟩ mok_X3_lastOf ⟨by decide, by decide⟩ ⟨q3051, ln_255, Or.inl ⟨q3049, Or.inl qs107⟩⟩) (trivial)) (Or.inl (by decide))) (ihN rfl) rfl ?_
  refine bplain (pc' := 84) rfl dX3_cellsDigest_83 rfl (ihN rfl) rfl ?_
  refine bplain (pc' := 85) rfl dX3_cellsDigest_84 rfl (ihN rfl) rfl ?_
  refine bplain (pc' := 87) rfl dX3_cellsDigest_85 rfl (ihN rfl) rfl ?_
  refine bobj (pc' := 90) rfl dX3_cellsDigest_87 rfl (lkq0 lc_573 q3187) (ihN rfl) rfl ?_
  refine bplain (pc' := 92) rfl dX3_cellsDigest_90 rfl (ihN rfl) rfl ?_
  refine bplain (pc' := 93) rfl dX3_cellsDigest_92 rfl (ihN rfl) rfl ?_
  refine bplain (pc' := 94) rfl dX3_cellsDigest_93 rfl (ihN rfl) rfl ?_
  refine bplain (pc' := 95) rfl dX3_cellsDigest_94 rfl (ihN rfl) rfl ?_
  refine bplain (pc' := 96) rfl dX3_cellsDigest_95 rfl (ihN rfl) rfl ?_
  refine bplain (pc' := 98) rfl dX3_cellsDigest_96 rfl (ihN rfl) rfl ?_
  refine bcall (pc' := 101) rfl dX3_cellsDigest_98 rfl (trivial) (lcv (n := 3) rfl (pvc (lfv mt_X3_lastOf ⟨by decide, by decide⟩ mok_X3_lastOf ⟨by decide, by decide⟩ ⟨q3051, ln_255, Or.inl ⟨q3049, Or.inl qs107⟩⟩) (trivial)) (Or.inl (by decide))) (ihN rfl) rfl ?_
  refine bplain (pc' := 102) rfl dX3_cellsDigest_101 rfl (ihN rfl) rfl ?_
  refine bplain (pc' := 103) rfl dX3_cellsDigest_102 rfl (ihN rfl) rfl ?_
  refine bplain (pc' := 105) rfl dX3_cellsDigest_103 rfl (ihN rfl) rfl ?_
  refine bplain (pc' := 108) rfl dX3_cellsDigest_105 rfl (ihN rfl) rfl ?_
  refine bjmp (tg := 6) (pc' := 111) rfl (by decide) (by decide) rfl dX3_cellsDigest_108 rfl (ihN rfl) rfl ?_
  exact trivial
theorem bf_X3_cellsDigest_111 : BOKt mt tX3_cellsDigest 411 111 b_X3_cellsDigest_111 := by
  refine bnop1 ?_
  refine bplain (pc' := 113) rfl dX3_cellsDigest_111 rfl (ihN rfl) rfl ?_
  refine bret (pc' := 114) rfl dX3_cellsDigest_113 rfl (rfl) (ihN rfl) rfl ?_
  exact trivial
theorem tf_X3_cellsDigest : ∀ x ∈ tb_X3_cellsDigest, BOK mt 411 x.1 x.2 := tb_c mt_X3_cellsDigest bf_X3_cellsDigest_0 (tb_c mt_X3_cellsDigest bf_X3_cellsDigest_6 (tb_c mt_X3_cellsDigest bf_X3_cellsDigest_111 (tb_n)))
theorem bf_X3_digest_0 : BOKt mt tX3_digest 412 0 b_X3_digest_0 := by
  refine bobj (pc' := 3) rfl dX3_digest_0 rfl (lkq0 lc_574 q3186) (ihN rfl) rfl ?_
  refine bplain (pc' := 4) rfl dX3_digest_3 rfl (ihN rfl) rfl ?_
  refine bplain (pc' := 5) rfl dX3_digest_4 rfl (ihN rfl) rfl ?_
  refine bplain (pc' := 6) rfl dX3_digest_5 rfl (ihN rfl) rfl ?_
  exact bnop0 rfl (by decide)
theorem bf_X3_digest_6 : BOKt mt tX3_digest 412 6 b_X3_digest_6 := by
  refine bplain (pc' := 7) rfl dX3_digest_6 rfl (ihN rfl) rfl ?_
  refine bplain (pc' := 9) rfl dX3_digest_7 rfl (ihN rfl) rfl ?_
  refine bjmp (tg := 31) (pc' := 12) rfl (by decide) (by decide) rfl dX3_digest_9 rfl (ihN rfl) rfl ?_
  refine bobj (pc' := 15) rfl dX3_digest_12 rfl (lkq0 lc_573 q3187) (ihN rfl) rfl ?_
  refine bplain (pc' := 16) rfl dX3_digest_15 rfl (ihN rfl) rfl ?_
  refine bplain (pc' := 17) rfl dX3_digest_16 rfl (ihN rfl) rfl ?_
  refine bplain (pc' := 18) rfl dX3_digest_17 rfl (ihN rfl) rfl ?_
  refine bplain (pc' := 19) rfl dX3_digest_18 rfl (ihN rfl) rfl ?_
  refine bcall (pc' := 22) rfl dX3_digest_19 rfl (trivial) (lcv (n := 1) rfl (pvc (lfv mt_X3_count ⟨by decide, by decide⟩ mok_X3_count ⟨by decide, by decide⟩ ⟨q3175, ln_225, Or.inl ⟨q3188, Or.inl q3176⟩⟩) (trivial)) (Or.inl (by decide))) (ihN rfl) rfl ?_
  refine bplain (pc' := 23) rfl dX3_digest_22 rfl (ihN rfl) rfl ?_
  refine bplain (pc' := 24) rfl dX3_digest_23 rfl (ihN rfl) rfl ?_
  refine bplain (pc' := 25) rfl dX3_digest_24 rfl (ihN rfl) rfl ?_
  refine bplain (pc' := 28) rfl dX3_digest_25 rfl (ihN rfl) rfl ?_
  refine bjmp (tg := 6) (pc' := 31) rfl (by decide) (by decide) rfl dX3_digest_28 rfl (ihN rfl) rfl ?_
  exact trivial
theorem bf_X3_digest_31 : BOKt mt tX3_digest 412 31 b_X3_digest_31 := by
  refine bplain (pc' := 32) rfl dX3_digest_31 rfl (ihN rfl) rfl ?_
  refine bplain (pc' := 33) rfl dX3_digest_32 rfl (ihN rfl) rfl ?_
  exact bnop0 rfl (by decide)
theorem bf_X3_digest_33 : BOKt mt tX3_digest 412 33 b_X3_digest_33 := by
  refine bplain (pc' := 34) rfl dX3_digest_33 rfl (ihN rfl) rfl ?_
  refine bplain (pc' := 35) rfl dX3_digest_34 rfl (ihN rfl) rfl ?_
  refine bthr (pc' := 38) rfl dX3_digest_35 rfl (lkf0 q2604 lf_334) (trivial) (ihN rfl) rfl ?_
  refine bjmp (tg := 54) (pc' := 41) rfl (by decide) (by decide) rfl dX3_digest_38 rfl (ihN rfl) rfl ?_
  refine bplain (pc' := 42) rfl dX3_digest_41 rfl (ihN rfl) rfl ?_
  refine bplain (pc' := 43) rfl dX3_digest_42 rfl (ihN rfl) rfl ?_
  refine bplain (pc' := 44) rfl dX3_digest_43 rfl (ihN rfl) rfl ?_
  refine bcall (pc' := 47) rfl dX3_digest_44 rfl (trivial) (lcv (n := 2) rfl (pvc (lfv mt_X3_statementDigest ⟨by decide, by decide⟩ mok_X3_statementDigest ⟨by decide, by decide⟩ ⟨q3191, ln_575, Or.inl ⟨q3189, Or.inl qs130⟩⟩) (trivial)) (Or.inl (by decide))) (ihN rfl) rfl ?_
  refine bplain (pc' := 48) rfl dX3_digest_47 rfl (ihN rfl) rfl ?_
  refine bplain (pc' := 51) rfl dX3_digest_48 rfl (ihN rfl) rfl ?_
  refine bjmp (tg := 33) (pc' := 54) rfl (by decide) (by decide) rfl dX3_digest_51 rfl (ihN rfl) rfl ?_
  exact trivial
theorem bf_X3_digest_54 : BOKt mt tX3_digest 412 54 b_X3_digest_54 := by
  refine bplain (pc' := 55) rfl dX3_digest_54 rfl (ihN rfl) rfl ?_
  refine bplain (pc' := 56) rfl dX3_digest_55 rfl (ihN rfl) rfl ?_
  exact bnop0 rfl (by decide)
theorem bf_X3_digest_56 : BOKt mt tX3_digest 412 56 b_X3_digest_56 := by
  refine bplain (pc' := 57) rfl dX3_digest_56 rfl (ihN rfl) rfl ?_
  refine bplain (pc' := 59) rfl dX3_digest_57 rfl (ihN rfl) rfl ?_
  refine bjmp (tg := 75) (pc' := 62) rfl (by decide) (by decide) rfl dX3_digest_59 rfl (ihN rfl) rfl ?_
  refine bplain (pc' := 63) rfl dX3_digest_62 rfl (ihN rfl) rfl ?_
  refine bplain (pc' := 64) rfl dX3_digest_63 rfl (ihN rfl) rfl ?_
  refine bplain (pc' := 65) rfl dX3_digest_64 rfl (ihN rfl) rfl ?_
  refine bcall (pc' := 68) rfl dX3_digest_65 rfl (trivial) (lcv (n := 2) rfl (pvc (lfv mt_X3_rowDigest ⟨by decide, by decide⟩ mok_X3_rowDigest ⟨by decide, by decide⟩ ⟨q3195, ln_575, Or.inl ⟨q3193, Or.inl qs131⟩⟩) (trivial)) (Or.inl (by decide))) (ihN rfl) rfl ?_
  refine bplain (pc' := 69) rfl dX3_digest_68 rfl (ihN rfl) rfl ?_
  refine bplain (pc' := 72) rfl dX3_digest_69 rfl (ihN rfl) rfl ?_
  refine bjmp (tg := 56) (pc' := 75) rfl (by decide) (by decide) rfl dX3_digest_72 rfl (ihN rfl) rfl ?_
  exact trivial
theorem bf_X3_digest_75 : BOKt mt tX3_digest 412 75 b_X3_digest_75 := by
  refine bplain (pc' := 76) rfl dX3_digest_75 rfl (ihN rfl) rfl ?_
  refine bplain (pc' := 77) rfl dX3_digest_76 rfl (ihN rfl) rfl ?_
  exact bnop0 rfl (by decide)
theorem bf_X3_digest_77 : BOKt mt tX3_digest 412 77 b_X3_digest_77 := by
  refine bplain (pc' := 78) rfl dX3_digest_77 rfl (ihN rfl) rfl ?_
  refine bplain (pc' := 80) rfl dX3_digest_78 rfl (ihN rfl) rfl ?_
  refine bjmp (tg := 96) (pc' := 83) rfl (by decide) (by decide) rfl dX3_digest_80 rfl (ihN rfl) rfl ?_
  refine bplain (pc' := 84) rfl dX3_digest_83 rfl (ihN rfl) rfl ?_
  refine bplain (pc' := 85) rfl dX3_digest_84 rfl (ihN rfl) rfl ?_
  refine bplain (pc' := 86) rfl dX3_digest_85 rfl (ihN rfl) rfl ?_
  refine bcall (pc' := 89) rfl dX3_digest_86 rfl (trivial) (lcv (n := 2) rfl (pvc (lfv mt_X3_cellsDigest ⟨by decide, by decide⟩ mok_X3_cellsDigest ⟨by decide, by decide⟩ ⟨q3199, ln_575, Or.inl ⟨q3197, Or.inl qs132⟩⟩) (trivial)) (Or.inl (by decide))) (ihN rfl) rfl ?_
  refine bplain (pc' := 90) rfl dX3_digest_89 rfl (ihN rfl) rfl ?_
  refine bplain (pc' := 93) rfl dX3_digest_90 rfl (ihN rfl) rfl ?_
  refine bjmp (tg := 77) (pc' := 96) rfl (by decide) (by decide) rfl dX3_digest_93 rfl (ihN rfl) rfl ?_
  exact trivial
theorem bf_X3_digest_96 : BOKt mt tX3_digest 412 96 b_X3_digest_96 := by
  refine bplain (pc' := 97) rfl dX3_digest_96 rfl (ihN rfl) rfl ?_
  refine bplain (pc' := 98) rfl dX3_digest_97 rfl (ihN rfl) rfl ?_
  exact bnop0 rfl (by decide)
theorem bf_X3_digest_98 : BOKt mt tX3_digest 412 98 b_X3_digest_98 := by
  refine bplain (pc' := 99) rfl dX3_digest_98 rfl (ihN rfl) rfl ?_
  refine bplain (pc' := 100) rfl dX3_digest_99 rfl (ihN rfl) rfl ?_
  refine bjmp (tg := 123) (pc' := 103) rfl (by decide) (by decide) rfl dX3_digest_100 rfl (ihN rfl) rfl ?_
  refine bobj (pc' := 106) rfl dX3_digest_103 rfl (lkq0 lc_573 q3187) (ihN rfl) rfl ?_
  refine bplain (pc' := 107) rfl dX3_digest_106 rfl (ihN rfl) rfl ?_
  refine bplain (pc' := 108) rfl dX3_digest_107 rfl (ihN rfl) rfl ?_
  refine bplain (pc' := 109) rfl dX3_digest_108 rfl (ihN rfl) rfl ?_
  refine bthr (pc' := 112) rfl dX3_digest_109 rfl (lkf0 q2632 lf_191) (trivial) (ihN rfl) rfl ?_
  refine bplain (pc' := 113) rfl dX3_digest_112 rfl (ihN rfl) rfl ?_
  refine bplain (pc' := 114) rfl dX3_digest_113 rfl (ihN rfl) rfl ?_
  refine bplain (pc' := 115) rfl dX3_digest_114 rfl (ihN rfl) rfl ?_
  refine bplain (pc' := 116) rfl dX3_digest_115 rfl (ihN rfl) rfl ?_
  refine bplain (pc' := 117) rfl dX3_digest_116 rfl (ihN rfl) rfl ?_
  refine bplain (pc' := 120) rfl dX3_digest_117 rfl (ihN rfl) rfl ?_
  refine bjmp (tg := 98) (pc' := 123) rfl (by decide) (by decide) rfl dX3_digest_120 rfl (ihN rfl) rfl ?_
  exact trivial
theorem bf_X3_digest_123 : BOKt mt tX3_digest 412 123 b_X3_digest_123 := by
  refine bplain (pc' := 124) rfl dX3_digest_123 rfl (ihN rfl) rfl ?_
  refine bplain (pc' := 125) rfl dX3_digest_124 rfl (ihN rfl) rfl ?_
  exact bnop0 rfl (by decide)
theorem bf_X3_digest_125 : BOKt mt tX3_digest 412 125 b_X3_digest_125 := by
  refine bplain (pc' := 126) rfl dX3_digest_125 rfl (ihN rfl) rfl ?_
  refine bplain (pc' := 128) rfl dX3_digest_126 rfl (ihN rfl) rfl ?_
  refine bjmp (tg := 150) (pc' := 131) rfl (by decide) (by decide) rfl dX3_digest_128 rfl (ihN rfl) rfl ?_
  refine bobj (pc' := 134) rfl dX3_digest_131 rfl (lkq0 lc_573 q3187) (ihN rfl) rfl ?_
  refine bplain (pc' := 135) rfl dX3_digest_134 rfl (ihN rfl) rfl ?_
  refine bplain (pc' := 136) rfl dX3_digest_135 rfl (ihN rfl) rfl ?_
  refine bplain (pc' := 137) rfl dX3_digest_136 rfl (ihN rfl) rfl ?_
  refine bplain (pc' := 138) rfl dX3_digest_137 rfl (ihN rfl) rfl ?_
  refine bcall (pc' := 141) rfl dX3_digest_138 rfl (trivial) (lcv (n := 1) rfl (pvc (lfv mt_X3_ended ⟨by decide, by decide⟩ mok_X3_ended ⟨by decide, by decide⟩ ⟨q3167, ln_225, Or.inl ⟨q3201, Or.inl q3168⟩⟩) (trivial)) (Or.inl (by decide))) (ihN rfl) rfl ?_
  refine bplain (pc' := 142) rfl dX3_digest_141 rfl (ihN rfl) rfl ?_
  refine bplain (pc' := 143) rfl dX3_digest_142 rfl (ihN rfl) rfl ?_
  refine bplain (pc' := 144) rfl dX3_digest_143 rfl (ihN rfl) rfl ?_
  refine bplain (pc' := 147) rfl dX3_digest_144 rfl (ihN rfl) rfl ?_
  refine bjmp (tg := 125) (pc' := 150) rfl (by decide) (by decide) rfl dX3_digest_147 rfl (ihN rfl) rfl ?_
  exact trivial
theorem bf_X3_digest_150 : BOKt mt tX3_digest 412 150 b_X3_digest_150 := by
  refine bplain (pc' := 151) rfl dX3_digest_150 rfl (ihN rfl) rfl ?_
  refine bret (pc' := 152) rfl dX3_digest_151 rfl (rfl) (ihN rfl) rfl ?_
  exact trivial
theorem tf_X3_digest : ∀ x ∈ tb_X3_digest, BOK mt 412 x.1 x.2 := tb_c mt_X3_digest bf_X3_digest_0 (tb_c mt_X3_digest bf_X3_digest_6 (tb_c mt_X3_digest bf_X3_digest_31 (tb_c mt_X3_digest bf_X3_digest_33 (tb_c mt_X3_digest bf_X3_digest_54 (tb_c mt_X3_digest bf_X3_digest_56 (tb_c mt_X3_digest bf_X3_digest_75 (tb_c mt_X3_digest bf_X3_digest_77 (tb_c mt_X3_digest bf_X3_digest_96 (tb_c mt_X3_digest bf_X3_digest_98 (tb_c mt_X3_digest bf_X3_digest_123 (tb_c mt_X3_digest bf_X3_digest_125 (tb_c mt_X3_digest bf_X3_digest_150 (tb_n)))))))))))))
theorem bf_L_law_0 : BOKt mt tL_law 413 0 b_L_law_0 := by
  refine bthr (pc' := 3) rfl dL_law_0 rfl (⟨⟨by decide, by decide, by decide⟩, rfl, q187, q188, q134⟩) (trivial) (ihN rfl) rfl ?_
  refine bplain (pc' := 4) rfl dL_law_3 rfl (ihN rfl) rfl ?_
  refine bcall (pc' := 7) rfl dL_law_4 rfl (trivial) (lci mt_X0_init ⟨by decide, by decide⟩ mok_X0_init rfl rfl rfl ln_0 q190 rfl (Or.inl q189)) (ihN rfl) rfl ?_
  refine bplain (pc' := 8) rfl dL_law_7 rfl (ihN rfl) rfl ?_
  refine bthr (pc' := 11) rfl dL_law_8 rfl (⟨⟨by decide, by decide, by decide⟩, rfl, q2591, q2592, q161⟩) (trivial) (ihN rfl) rfl ?_
  refine bplain (pc' := 12) rfl dL_law_11 rfl (ihN rfl) rfl ?_
  refine bcall (pc' := 15) rfl dL_law_12 rfl (trivial) (lci mt_X3_init ⟨by decide, by decide⟩ mok_X3_init rfl rfl rfl ln_0 q2594 rfl (Or.inl q2593)) (ihN rfl) rfl ?_
  refine bplain (pc' := 16) rfl dL_law_15 rfl (ihN rfl) rfl ?_
  refine bplain (pc' := 17) rfl dL_law_16 rfl (ihN rfl) rfl ?_
  refine bplain (pc' := 18) rfl dL_law_17 rfl (ihN rfl) rfl ?_
  exact bnop0 rfl (by decide)
theorem bf_L_law_18 : BOKt mt tL_law 413 18 b_L_law_18 := by
  refine bplain (pc' := 19) rfl dL_law_18 rfl (ihN rfl) rfl ?_
  refine bplain (pc' := 20) rfl dL_law_19 rfl (ihN rfl) rfl ?_
  refine bplain (pc' := 21) rfl dL_law_20 rfl (ihN rfl) rfl ?_
  refine bplain (pc' := 23) rfl dL_law_21 rfl (ihN rfl) rfl ?_
  refine bplain (pc' := 24) rfl dL_law_23 rfl (ihN rfl) rfl ?_
  refine bjmp (tg := 1471) (pc' := 27) rfl (by decide) (by decide) rfl dL_law_24 rfl (ihN rfl) rfl ?_
  refine bplain (pc' := 28) rfl dL_law_27 rfl (ihN rfl) rfl ?_
  refine bplain (pc' := 29) rfl dL_law_28 rfl (ihN rfl) rfl ?_
  refine bplain (pc' := 30) rfl dL_law_29 rfl (ihN rfl) rfl ?_
  refine bplain (pc' := 32) rfl dL_law_30 rfl (ihN rfl) rfl ?_
  refine bplain (pc' := 33) rfl dL_law_32 rfl (ihN rfl) rfl ?_
  exact bsw rfl dL_law_33 (swt (by decide) (by decide) (by decide) (by decide) (by decide +kernel) (by decide +kernel)) (by decide +kernel) (ihN rfl)
theorem bf_L_law_188 : BOKt mt tL_law 413 188 b_L_law_188 := by
  refine bplain (pc' := 189) rfl dL_law_188 rfl (ihN rfl) rfl ?_
  refine bplain (pc' := 190) rfl dL_law_189 rfl (ihN rfl) rfl ?_
  refine bplain (pc' := 191) rfl dL_law_190 rfl (ihN rfl) rfl ?_
  refine bplain (pc' := 192) rfl dL_law_191 rfl (ihN rfl) rfl ?_
  refine bplain (pc' := 193) rfl dL_law_192 rfl (ihN rfl) rfl ?_
  refine bplain (pc' := 194) rfl dL_law_193 rfl (ihN rfl) rfl ?_
  refine bplain (pc' := 195) rfl dL_law_194 rfl (ihN rfl) rfl ?_
  refine bplain (pc' := 196) rfl dL_law_195 rfl (ihN rfl) rfl ?_
  refine bplain (pc' := 197) rfl dL_law_196 rfl (ihN rfl) rfl ?_
  refine bplain (pc' := 198) rfl dL_law_197 rfl (ihN rfl) rfl ?_
  refine bplain (pc' := 199) rfl dL_law_198 rfl (ihN rfl) rfl ?_
  refine bplain (pc' := 200) rfl dL_law_199 rfl (ihN rfl) rfl ?_
  refine bplain (pc' := 201) rfl dL_law_200 rfl (ihN rfl) rfl ?_
  refine bplain (pc' := 202) rfl dL_law_201 rfl (ihN rfl) rfl ?_
  refine bplain (pc' := 203) rfl dL_law_202 rfl (ihN rfl) rfl ?_
  refine bplain (pc' := 204) rfl dL_law_203 rfl (ihN rfl) rfl ?_
  refine bcall (pc' := 207) rfl dL_law_204 rfl (trivial) (lcv (n := 3) rfl (pvc (lfv mt_X0_row ⟨by decide, by decide⟩ mok_X0_row ⟨by decide, by decide⟩ ⟨q1187, ln_255, Or.inl ⟨q1186, Or.inl q1188⟩⟩) (trivial)) (Or.inl (by decide))) (ihN rfl) rfl ?_
  refine bplain (pc' := 208) rfl dL_law_207 rfl (ihN rfl) rfl ?_
  refine bplain (pc' := 209) rfl dL_law_208 rfl (ihN rfl) rfl ?_
  refine bplain (pc' := 210) rfl dL_law_209 rfl (ihN rfl) rfl ?_
  refine bplain (pc' := 211) rfl dL_law_210 rfl (ihN rfl) rfl ?_
  refine bplain (pc' := 212) rfl dL_law_211 rfl (ihN rfl) rfl ?_
  refine bplain (pc' := 213) rfl dL_law_212 rfl (ihN rfl) rfl ?_
  refine bplain (pc' := 214) rfl dL_law_213 rfl (ihN rfl) rfl ?_
  refine bplain (pc' := 215) rfl dL_law_214 rfl (ihN rfl) rfl ?_
  refine bplain (pc' := 216) rfl dL_law_215 rfl (ihN rfl) rfl ?_
  refine bplain (pc' := 217) rfl dL_law_216 rfl (ihN rfl) rfl ?_
  refine bplain (pc' := 218) rfl dL_law_217 rfl (ihN rfl) rfl ?_
  refine bplain (pc' := 219) rfl dL_law_218 rfl (ihN rfl) rfl ?_
  refine bplain (pc' := 220) rfl dL_law_219 rfl (ihN rfl) rfl ?_
  refine bplain (pc' := 221) rfl dL_law_220 rfl (ihN rfl) rfl ?_
  refine bplain (pc' := 222) rfl dL_law_221 rfl (ihN rfl) rfl ?_
  refine bplain (pc' := 223) rfl dL_law_222 rfl (ihN rfl) rfl ?_
  refine bcall (pc' := 226) rfl dL_law_223 rfl (trivial) (lcv (n := 3) rfl (pvc (lfv mt_X3_row ⟨by decide, by decide⟩ mok_X3_row ⟨by decide, by decide⟩ ⟨q2740, ln_255, Or.inl ⟨q2739, Or.inl q2741⟩⟩) (trivial)) (Or.inl (by decide))) (ihN rfl) rfl ?_
  refine bjmp (tg := 1465) (pc' := 229) rfl (by decide) (by decide) rfl dL_law_226 rfl (ihN rfl) rfl ?_
  refine bplain (pc' := 230) rfl dL_law_229 rfl (ihN rfl) rfl ?_
  refine bret (pc' := 231) rfl dL_law_230 rfl (Or.inr ⟨rfl, rfl⟩) (ihN rfl) rfl ?_
  exact trivial
theorem bf_L_law_231 : BOKt mt tL_law 413 231 b_L_law_231 := by
  refine bplain (pc' := 232) rfl dL_law_231 rfl (ihN rfl) rfl ?_
  refine bplain (pc' := 233) rfl dL_law_232 rfl (ihN rfl) rfl ?_
  refine bplain (pc' := 234) rfl dL_law_233 rfl (ihN rfl) rfl ?_
  refine bplain (pc' := 235) rfl dL_law_234 rfl (ihN rfl) rfl ?_
  refine bplain (pc' := 236) rfl dL_law_235 rfl (ihN rfl) rfl ?_
  refine bplain (pc' := 237) rfl dL_law_236 rfl (ihN rfl) rfl ?_
  refine bcall (pc' := 240) rfl dL_law_237 rfl (trivial) (lcv (n := 1) rfl (pvc (lfv mt_X0_lose ⟨by decide, by decide⟩ mok_X0_lose ⟨by decide, by decide⟩ ⟨q1251, ln_225, Or.inl ⟨q1250, Or.inl q1252⟩⟩) (trivial)) (Or.inl (by decide))) (ihN rfl) rfl ?_
  refine bplain (pc' := 241) rfl dL_law_240 rfl (ihN rfl) rfl ?_
  refine bplain (pc' := 242) rfl dL_law_241 rfl (ihN rfl) rfl ?_
  refine bplain (pc' := 243) rfl dL_law_242 rfl (ihN rfl) rfl ?_
  refine bplain (pc' := 244) rfl dL_law_243 rfl (ihN rfl) rfl ?_
  refine bplain (pc' := 245) rfl dL_law_244 rfl (ihN rfl) rfl ?_
  refine bplain (pc' := 246) rfl dL_law_245 rfl (ihN rfl) rfl ?_
  refine bcall (pc' := 249) rfl dL_law_246 rfl (trivial) (lcv (n := 1) rfl (pvc (lfv mt_X3_lose ⟨by decide, by decide⟩ mok_X3_lose ⟨by decide, by decide⟩ ⟨q2754, ln_225, Or.inl ⟨q2753, Or.inl q2755⟩⟩) (trivial)) (Or.inl (by decide))) (ihN rfl) rfl ?_
  refine bjmp (tg := 1465) (pc' := 252) rfl (by decide) (by decide) rfl dL_law_249 rfl (ihN rfl) rfl ?_
  refine bplain (pc' := 253) rfl dL_law_252 rfl (ihN rfl) rfl ?_
  refine bret (pc' := 254) rfl dL_law_253 rfl (Or.inr ⟨rfl, rfl⟩) (ihN rfl) rfl ?_
  exact trivial
theorem bf_L_law_254 : BOKt mt tL_law 413 254 b_L_law_254 := by
  refine bplain (pc' := 255) rfl dL_law_254 rfl (ihN rfl) rfl ?_
  refine bplain (pc' := 256) rfl dL_law_255 rfl (ihN rfl) rfl ?_
  refine bplain (pc' := 257) rfl dL_law_256 rfl (ihN rfl) rfl ?_
  refine bplain (pc' := 258) rfl dL_law_257 rfl (ihN rfl) rfl ?_
  refine bplain (pc' := 259) rfl dL_law_258 rfl (ihN rfl) rfl ?_
  refine bplain (pc' := 260) rfl dL_law_259 rfl (ihN rfl) rfl ?_
  refine bplain (pc' := 261) rfl dL_law_260 rfl (ihN rfl) rfl ?_
  refine bplain (pc' := 262) rfl dL_law_261 rfl (ihN rfl) rfl ?_
  refine bplain (pc' := 263) rfl dL_law_262 rfl (ihN rfl) rfl ?_
  refine bplain (pc' := 264) rfl dL_law_263 rfl (ihN rfl) rfl ?_
  refine bplain (pc' := 265) rfl dL_law_264 rfl (ihN rfl) rfl ?_
  refine bplain (pc' := 266) rfl dL_law_265 rfl (ihN rfl) rfl ?_
  refine bplain (pc' := 267) rfl dL_law_266 rfl (ihN rfl) rfl ?_
  refine bplain (pc' := 268) rfl dL_law_267 rfl (ihN rfl) rfl ?_
  refine bplain (pc' := 269) rfl dL_law_268 rfl (ihN rfl) rfl ?_
  refine bplain (pc' := 270) rfl dL_law_269 rfl (ihN rfl) rfl ?_
  refine bplain (pc' := 271) rfl dL_law_270 rfl (ihN rfl) rfl ?_
  refine bplain (pc' := 272) rfl dL_law_271 rfl (ihN rfl) rfl ?_
  refine bplain (pc' := 273) rfl dL_law_272 rfl (ihN rfl) rfl ?_
  refine bplain (pc' := 274) rfl dL_law_273 rfl (ihN rfl) rfl ?_
  refine bplain (pc' := 275) rfl dL_law_274 rfl (ihN rfl) rfl ?_
  refine bcall (pc' := 278) rfl dL_law_275 rfl (trivial) (lcv (n := 4) rfl (pvc (lfv mt_X0_put ⟨by decide, by decide⟩ mok_X0_put ⟨by decide, by decide⟩ ⟨q1280, ln_453, Or.inl ⟨q1279, Or.inl q1281⟩⟩) (trivial)) (Or.inl (by decide))) (ihN rfl) rfl ?_
  refine bplain (pc' := 279) rfl dL_law_278 rfl (ihN rfl) rfl ?_
  refine bplain (pc' := 280) rfl dL_law_279 rfl (ihN rfl) rfl ?_
  refine bplain (pc' := 281) rfl dL_law_280 rfl (ihN rfl) rfl ?_
  refine bplain (pc' := 282) rfl dL_law_281 rfl (ihN rfl) rfl ?_
  refine bplain (pc' := 283) rfl dL_law_282 rfl (ihN rfl) rfl ?_
  refine bplain (pc' := 284) rfl dL_law_283 rfl (ihN rfl) rfl ?_
  refine bplain (pc' := 285) rfl dL_law_284 rfl (ihN rfl) rfl ?_
  refine bplain (pc' := 286) rfl dL_law_285 rfl (ihN rfl) rfl ?_
  refine bplain (pc' := 287) rfl dL_law_286 rfl (ihN rfl) rfl ?_
  refine bplain (pc' := 288) rfl dL_law_287 rfl (ihN rfl) rfl ?_
  refine bplain (pc' := 289) rfl dL_law_288 rfl (ihN rfl) rfl ?_
  refine bplain (pc' := 290) rfl dL_law_289 rfl (ihN rfl) rfl ?_
  refine bplain (pc' := 291) rfl dL_law_290 rfl (ihN rfl) rfl ?_
  refine bplain (pc' := 292) rfl dL_law_291 rfl (ihN rfl) rfl ?_
  refine bplain (pc' := 293) rfl dL_law_292 rfl (ihN rfl) rfl ?_
  refine bplain (pc' := 294) rfl dL_law_293 rfl (ihN rfl) rfl ?_
  refine bplain (pc' := 295) rfl dL_law_294 rfl (ihN rfl) rfl ?_
  refine bplain (pc' := 296) rfl dL_law_295 rfl (ihN rfl) rfl ?_
  refine bplain (pc' := 297) rfl dL_law_296 rfl (ihN rfl) rfl ?_
  refine bplain (pc' := 298) rfl dL_law_297 rfl (ihN rfl) rfl ?_
  refine bplain (pc' := 299) rfl dL_law_298 rfl (ihN rfl) rfl ?_
  refine bcall (pc' := 302) rfl dL_law_299 rfl (trivial) (lcv (n := 4) rfl (pvc (lfv mt_X3_put ⟨by decide, by decide⟩ mok_X3_put ⟨by decide, by decide⟩ ⟨q2758, ln_453, Or.inl ⟨q2757, Or.inl q2759⟩⟩) (trivial)) (Or.inl (by decide))) (ihN rfl) rfl ?_
  refine bjmp (tg := 1465) (pc' := 305) rfl (by decide) (by decide) rfl dL_law_302 rfl (ihN rfl) rfl ?_
  refine bplain (pc' := 306) rfl dL_law_305 rfl (ihN rfl) rfl ?_
  refine bret (pc' := 307) rfl dL_law_306 rfl (Or.inr ⟨rfl, rfl⟩) (ihN rfl) rfl ?_
  exact trivial
theorem bf_L_law_307 : BOKt mt tL_law 413 307 b_L_law_307 := by
  refine bplain (pc' := 308) rfl dL_law_307 rfl (ihN rfl) rfl ?_
  refine bplain (pc' := 309) rfl dL_law_308 rfl (ihN rfl) rfl ?_
  refine bplain (pc' := 310) rfl dL_law_309 rfl (ihN rfl) rfl ?_
  refine bplain (pc' := 311) rfl dL_law_310 rfl (ihN rfl) rfl ?_
  refine bplain (pc' := 312) rfl dL_law_311 rfl (ihN rfl) rfl ?_
  refine bplain (pc' := 313) rfl dL_law_312 rfl (ihN rfl) rfl ?_
  refine bplain (pc' := 314) rfl dL_law_313 rfl (ihN rfl) rfl ?_
  refine bplain (pc' := 315) rfl dL_law_314 rfl (ihN rfl) rfl ?_
  refine bplain (pc' := 316) rfl dL_law_315 rfl (ihN rfl) rfl ?_
  refine bplain (pc' := 317) rfl dL_law_316 rfl (ihN rfl) rfl ?_
  refine bplain (pc' := 318) rfl dL_law_317 rfl (ihN rfl) rfl ?_
  refine bcall (pc' := 321) rfl dL_law_318 rfl (trivial) (lcv (n := 2) rfl (pvc (lfv mt_X0_get ⟨by decide, by decide⟩ mok_X0_get ⟨by decide, by decide⟩ ⟨q1328, ln_576, Or.inl ⟨q1327, Or.inl q1329⟩⟩) (trivial)) (Or.inl (by decide))) (ihN rfl) rfl ?_
  refine bplain (pc' := 322) rfl dL_law_321 rfl (ihN rfl) rfl ?_
  refine bplain (pc' := 323) rfl dL_law_322 rfl (ihN rfl) rfl ?_
  refine bplain (pc' := 324) rfl dL_law_323 rfl (ihN rfl) rfl ?_
  refine bplain (pc' := 325) rfl dL_law_324 rfl (ihN rfl) rfl ?_
  refine bplain (pc' := 326) rfl dL_law_325 rfl (ihN rfl) rfl ?_
  refine bplain (pc' := 327) rfl dL_law_326 rfl (ihN rfl) rfl ?_
  refine bplain (pc' := 328) rfl dL_law_327 rfl (ihN rfl) rfl ?_
  refine bplain (pc' := 329) rfl dL_law_328 rfl (ihN rfl) rfl ?_
  refine bplain (pc' := 330) rfl dL_law_329 rfl (ihN rfl) rfl ?_
  refine bplain (pc' := 331) rfl dL_law_330 rfl (ihN rfl) rfl ?_
  refine bplain (pc' := 332) rfl dL_law_331 rfl (ihN rfl) rfl ?_
  refine bcall (pc' := 335) rfl dL_law_332 rfl (trivial) (lcv (n := 2) rfl (pvc (lfv mt_X3_get ⟨by decide, by decide⟩ mok_X3_get ⟨by decide, by decide⟩ ⟨q2764, ln_576, Or.inl ⟨q2763, Or.inl q2765⟩⟩) (trivial)) (Or.inl (by decide))) (ihN rfl) rfl ?_
  refine bplain (pc' := 336) rfl dL_law_335 rfl (ihN rfl) rfl ?_
  refine bjmp (tg := 1465) (pc' := 339) rfl (by decide) (by decide) rfl dL_law_336 rfl (ihN rfl) rfl ?_
  refine bplain (pc' := 340) rfl dL_law_339 rfl (ihN rfl) rfl ?_
  refine bret (pc' := 341) rfl dL_law_340 rfl (Or.inr ⟨rfl, rfl⟩) (ihN rfl) rfl ?_
  exact trivial
theorem bf_L_law_341 : BOKt mt tL_law 413 341 b_L_law_341 := by
  refine bplain (pc' := 342) rfl dL_law_341 rfl (ihN rfl) rfl ?_
  refine bplain (pc' := 343) rfl dL_law_342 rfl (ihN rfl) rfl ?_
  refine bplain (pc' := 344) rfl dL_law_343 rfl (ihN rfl) rfl ?_
  refine bplain (pc' := 345) rfl dL_law_344 rfl (ihN rfl) rfl ?_
  refine bplain (pc' := 346) rfl dL_law_345 rfl (ihN rfl) rfl ?_
  refine bplain (pc' := 347) rfl dL_law_346 rfl (ihN rfl) rfl ?_
  refine bplain (pc' := 348) rfl dL_law_347 rfl (ihN rfl) rfl ?_
  refine bplain (pc' := 349) rfl dL_law_348 rfl (ihN rfl) rfl ?_
  refine bplain (pc' := 350) rfl dL_law_349 rfl (ihN rfl) rfl ?_
  refine bplain (pc' := 351) rfl dL_law_350 rfl (ihN rfl) rfl ?_
  refine bplain (pc' := 352) rfl dL_law_351 rfl (ihN rfl) rfl ?_
  refine bplain (pc' := 353) rfl dL_law_352 rfl (ihN rfl) rfl ?_
  refine bplain (pc' := 354) rfl dL_law_353 rfl (ihN rfl) rfl ?_
  refine bplain (pc' := 355) rfl dL_law_354 rfl (ihN rfl) rfl ?_
  refine bplain (pc' := 356) rfl dL_law_355 rfl (ihN rfl) rfl ?_
  refine bplain (pc' := 357) rfl dL_law_356 rfl (ihN rfl) rfl ?_
  refine bplain (pc' := 358) rfl dL_law_357 rfl (ihN rfl) rfl ?_
  refine bplain (pc' := 359) rfl dL_law_358 rfl (ihN rfl) rfl ?_
  refine bplain (pc' := 360) rfl dL_law_359 rfl (ihN rfl) rfl ?_
  refine bplain (pc' := 361) rfl dL_law_360 rfl (ihN rfl) rfl ?_
  refine bplain (pc' := 362) rfl dL_law_361 rfl (ihN rfl) rfl ?_
  refine bplain (pc' := 363) rfl dL_law_362 rfl (ihN rfl) rfl ?_
  refine bplain (pc' := 364) rfl dL_law_363 rfl (ihN rfl) rfl ?_
  refine bplain (pc' := 365) rfl dL_law_364 rfl (ihN rfl) rfl ?_
  refine bplain (pc' := 366) rfl dL_law_365 rfl (ihN rfl) rfl ?_
  refine bplain (pc' := 367) rfl dL_law_366 rfl (ihN rfl) rfl ?_
  refine bcall (pc' := 370) rfl dL_law_367 rfl (trivial) (lcv (n := 5) rfl (pvc (lfv mt_X0_copy ⟨by decide, by decide⟩ mok_X0_copy ⟨by decide, by decide⟩ ⟨q1360, ln_385, Or.inl ⟨q1359, Or.inl q1361⟩⟩) (trivial)) (Or.inl (by decide))) (ihN rfl) rfl ?_
  refine bplain (pc' := 371) rfl dL_law_370 rfl (ihN rfl) rfl ?_
  refine bplain (pc' := 372) rfl dL_law_371 rfl (ihN rfl) rfl ?_
  refine bplain (pc' := 373) rfl dL_law_372 rfl (ihN rfl) rfl ?_
  refine bplain (pc' := 374) rfl dL_law_373 rfl (ihN rfl) rfl ?_
  refine bplain (pc' := 375) rfl dL_law_374 rfl (ihN rfl) rfl ?_
  refine bplain (pc' := 376) rfl dL_law_375 rfl (ihN rfl) rfl ?_
  refine bplain (pc' := 377) rfl dL_law_376 rfl (ihN rfl) rfl ?_
  refine bplain (pc' := 378) rfl dL_law_377 rfl (ihN rfl) rfl ?_
  refine bplain (pc' := 379) rfl dL_law_378 rfl (ihN rfl) rfl ?_
  refine bplain (pc' := 380) rfl dL_law_379 rfl (ihN rfl) rfl ?_
  refine bplain (pc' := 381) rfl dL_law_380 rfl (ihN rfl) rfl ?_
  refine bplain (pc' := 382) rfl dL_law_381 rfl (ihN rfl) rfl ?_
  refine bplain (pc' := 383) rfl dL_law_382 rfl (ihN rfl) rfl ?_
  refine bplain (pc' := 384) rfl dL_law_383 rfl (ihN rfl) rfl ?_
  refine bplain (pc' := 385) rfl dL_law_384 rfl (ihN rfl) rfl ?_
  refine bplain (pc' := 386) rfl dL_law_385 rfl (ihN rfl) rfl ?_
  refine bplain (pc' := 387) rfl dL_law_386 rfl (ihN rfl) rfl ?_
  refine bplain (pc' := 388) rfl dL_law_387 rfl (ihN rfl) rfl ?_
  refine bplain (pc' := 389) rfl dL_law_388 rfl (ihN rfl) rfl ?_
  refine bplain (pc' := 390) rfl dL_law_389 rfl (ihN rfl) rfl ?_
  refine bplain (pc' := 391) rfl dL_law_390 rfl (ihN rfl) rfl ?_
  refine bplain (pc' := 392) rfl dL_law_391 rfl (ihN rfl) rfl ?_
  refine bplain (pc' := 393) rfl dL_law_392 rfl (ihN rfl) rfl ?_
  refine bplain (pc' := 394) rfl dL_law_393 rfl (ihN rfl) rfl ?_
  refine bplain (pc' := 395) rfl dL_law_394 rfl (ihN rfl) rfl ?_
  refine bplain (pc' := 396) rfl dL_law_395 rfl (ihN rfl) rfl ?_
  refine bcall (pc' := 399) rfl dL_law_396 rfl (trivial) (lcv (n := 5) rfl (pvc (lfv mt_X3_copy ⟨by decide, by decide⟩ mok_X3_copy ⟨by decide, by decide⟩ ⟨q2785, ln_385, Or.inl ⟨q2784, Or.inl q2786⟩⟩) (trivial)) (Or.inl (by decide))) (ihN rfl) rfl ?_
  refine bjmp (tg := 1465) (pc' := 402) rfl (by decide) (by decide) rfl dL_law_399 rfl (ihN rfl) rfl ?_
  refine bplain (pc' := 403) rfl dL_law_402 rfl (ihN rfl) rfl ?_
  refine bret (pc' := 404) rfl dL_law_403 rfl (Or.inr ⟨rfl, rfl⟩) (ihN rfl) rfl ?_
  exact trivial
theorem bf_L_law_404 : BOKt mt tL_law 413 404 b_L_law_404 := by
  refine bplain (pc' := 405) rfl dL_law_404 rfl (ihN rfl) rfl ?_
  refine bplain (pc' := 406) rfl dL_law_405 rfl (ihN rfl) rfl ?_
  refine bplain (pc' := 407) rfl dL_law_406 rfl (ihN rfl) rfl ?_
  refine bplain (pc' := 408) rfl dL_law_407 rfl (ihN rfl) rfl ?_
  refine bplain (pc' := 409) rfl dL_law_408 rfl (ihN rfl) rfl ?_
  refine bplain (pc' := 410) rfl dL_law_409 rfl (ihN rfl) rfl ?_
  refine bcall (pc' := 413) rfl dL_law_410 rfl (trivial) (lcv (n := 1) rfl (pvc (lfv mt_X0_turns ⟨by decide, by decide⟩ mok_X0_turns ⟨by decide, by decide⟩ ⟨q1382, ln_225, Or.inl ⟨q1381, Or.inl q1383⟩⟩) (trivial)) (Or.inl (by decide))) (ihN rfl) rfl ?_
  refine bplain (pc' := 414) rfl dL_law_413 rfl (ihN rfl) rfl ?_
  refine bplain (pc' := 415) rfl dL_law_414 rfl (ihN rfl) rfl ?_
  refine bplain (pc' := 416) rfl dL_law_415 rfl (ihN rfl) rfl ?_
  refine bplain (pc' := 417) rfl dL_law_416 rfl (ihN rfl) rfl ?_
  refine bplain (pc' := 418) rfl dL_law_417 rfl (ihN rfl) rfl ?_
  refine bplain (pc' := 419) rfl dL_law_418 rfl (ihN rfl) rfl ?_
  refine bcall (pc' := 422) rfl dL_law_419 rfl (trivial) (lcv (n := 1) rfl (pvc (lfv mt_X3_turns ⟨by decide, by decide⟩ mok_X3_turns ⟨by decide, by decide⟩ ⟨q2789, ln_225, Or.inl ⟨q2788, Or.inl q2790⟩⟩) (trivial)) (Or.inl (by decide))) (ihN rfl) rfl ?_
  refine bjmp (tg := 1465) (pc' := 425) rfl (by decide) (by decide) rfl dL_law_422 rfl (ihN rfl) rfl ?_
  refine bplain (pc' := 426) rfl dL_law_425 rfl (ihN rfl) rfl ?_
  refine bret (pc' := 427) rfl dL_law_426 rfl (Or.inr ⟨rfl, rfl⟩) (ihN rfl) rfl ?_
  exact trivial
theorem bf_L_law_427 : BOKt mt tL_law 413 427 b_L_law_427 := by
  refine bplain (pc' := 428) rfl dL_law_427 rfl (ihN rfl) rfl ?_
  refine bplain (pc' := 429) rfl dL_law_428 rfl (ihN rfl) rfl ?_
  refine bplain (pc' := 430) rfl dL_law_429 rfl (ihN rfl) rfl ?_
  refine bplain (pc' := 431) rfl dL_law_430 rfl (ihN rfl) rfl ?_
  refine bplain (pc' := 432) rfl dL_law_431 rfl (ihN rfl) rfl ?_
  refine bplain (pc' := 433) rfl dL_law_432 rfl (ihN rfl) rfl ?_
  refine bcall (pc' := 436) rfl dL_law_433 rfl (trivial) (lcv (n := 1) rfl (pvc (lfv mt_X0_type ⟨by decide, by decide⟩ mok_X0_type ⟨by decide, by decide⟩ ⟨q1450, ln_225, Or.inl ⟨q1449, Or.inl q1451⟩⟩) (trivial)) (Or.inl (by decide))) (ihN rfl) rfl ?_
  refine bplain (pc' := 437) rfl dL_law_436 rfl (ihN rfl) rfl ?_
  refine bplain (pc' := 438) rfl dL_law_437 rfl (ihN rfl) rfl ?_
  refine bplain (pc' := 439) rfl dL_law_438 rfl (ihN rfl) rfl ?_
  refine bplain (pc' := 440) rfl dL_law_439 rfl (ihN rfl) rfl ?_
  refine bplain (pc' := 441) rfl dL_law_440 rfl (ihN rfl) rfl ?_
  refine bplain (pc' := 442) rfl dL_law_441 rfl (ihN rfl) rfl ?_
  refine bcall (pc' := 445) rfl dL_law_442 rfl (trivial) (lcv (n := 1) rfl (pvc (lfv mt_X3_type ⟨by decide, by decide⟩ mok_X3_type ⟨by decide, by decide⟩ ⟨q2797, ln_225, Or.inl ⟨q2796, Or.inl q2798⟩⟩) (trivial)) (Or.inl (by decide))) (ihN rfl) rfl ?_
  refine bjmp (tg := 1465) (pc' := 448) rfl (by decide) (by decide) rfl dL_law_445 rfl (ihN rfl) rfl ?_
  refine bplain (pc' := 449) rfl dL_law_448 rfl (ihN rfl) rfl ?_
  refine bret (pc' := 450) rfl dL_law_449 rfl (Or.inr ⟨rfl, rfl⟩) (ihN rfl) rfl ?_
  exact trivial
theorem bf_L_law_450 : BOKt mt tL_law 413 450 b_L_law_450 := by
  refine bplain (pc' := 451) rfl dL_law_450 rfl (ihN rfl) rfl ?_
  refine bcall (pc' := 454) rfl dL_law_451 rfl (trivial) (lcv (n := 0) rfl (pvc (lfv mt_X0_wipe ⟨by decide, by decide⟩ mok_X0_wipe ⟨by decide, by decide⟩ ⟨q1455, ln_40, Or.inl ⟨q1454, Or.inl q1456⟩⟩) (trivial)) (Or.inl (by decide))) (ihN rfl) rfl ?_
  refine bplain (pc' := 455) rfl dL_law_454 rfl (ihN rfl) rfl ?_
  refine bcall (pc' := 458) rfl dL_law_455 rfl (trivial) (lcv (n := 0) rfl (pvc (lfv mt_X3_wipe ⟨by decide, by decide⟩ mok_X3_wipe ⟨by decide, by decide⟩ ⟨q2801, ln_40, Or.inl ⟨q2800, Or.inl q2802⟩⟩) (trivial)) (Or.inl (by decide))) (ihN rfl) rfl ?_
  refine bjmp (tg := 1465) (pc' := 461) rfl (by decide) (by decide) rfl dL_law_458 rfl (ihN rfl) rfl ?_
  refine bplain (pc' := 462) rfl dL_law_461 rfl (ihN rfl) rfl ?_
  refine bret (pc' := 463) rfl dL_law_462 rfl (Or.inr ⟨rfl, rfl⟩) (ihN rfl) rfl ?_
  exact trivial
theorem bf_L_law_463 : BOKt mt tL_law 413 463 b_L_law_463 := by
  refine bplain (pc' := 464) rfl dL_law_463 rfl (ihN rfl) rfl ?_
  refine bplain (pc' := 465) rfl dL_law_464 rfl (ihN rfl) rfl ?_
  refine bplain (pc' := 466) rfl dL_law_465 rfl (ihN rfl) rfl ?_
  refine bplain (pc' := 467) rfl dL_law_466 rfl (ihN rfl) rfl ?_
  refine bplain (pc' := 468) rfl dL_law_467 rfl (ihN rfl) rfl ?_
  refine bplain (pc' := 469) rfl dL_law_468 rfl (ihN rfl) rfl ?_
  refine bcall (pc' := 472) rfl dL_law_469 rfl (trivial) (lcv (n := 1) rfl (pvc (lfv mt_X0_statement ⟨by decide, by decide⟩ mok_X0_statement ⟨by decide, by decide⟩ ⟨q1459, ln_225, Or.inl ⟨q1458, Or.inl q1460⟩⟩) (trivial)) (Or.inl (by decide))) (ihN rfl) rfl ?_
  refine bplain (pc' := 473) rfl dL_law_472 rfl (ihN rfl) rfl ?_
  refine bplain (pc' := 474) rfl dL_law_473 rfl (ihN rfl) rfl ?_
  refine bplain (pc' := 475) rfl dL_law_474 rfl (ihN rfl) rfl ?_
  refine bplain (pc' := 476) rfl dL_law_475 rfl (ihN rfl) rfl ?_
  refine bplain (pc' := 477) rfl dL_law_476 rfl (ihN rfl) rfl ?_
  refine bplain (pc' := 478) rfl dL_law_477 rfl (ihN rfl) rfl ?_
  refine bcall (pc' := 481) rfl dL_law_478 rfl (trivial) (lcv (n := 1) rfl (pvc (lfv mt_X3_statement ⟨by decide, by decide⟩ mok_X3_statement ⟨by decide, by decide⟩ ⟨q2805, ln_225, Or.inl ⟨q2804, Or.inl q2806⟩⟩) (trivial)) (Or.inl (by decide))) (ihN rfl) rfl ?_
  refine bjmp (tg := 1465) (pc' := 484) rfl (by decide) (by decide) rfl dL_law_481 rfl (ihN rfl) rfl ?_
  refine bplain (pc' := 485) rfl dL_law_484 rfl (ihN rfl) rfl ?_
  refine bret (pc' := 486) rfl dL_law_485 rfl (Or.inr ⟨rfl, rfl⟩) (ihN rfl) rfl ?_
  exact trivial
theorem bf_L_law_486 : BOKt mt tL_law 413 486 b_L_law_486 := by
  refine bplain (pc' := 487) rfl dL_law_486 rfl (ihN rfl) rfl ?_
  refine bplain (pc' := 488) rfl dL_law_487 rfl (ihN rfl) rfl ?_
  refine bplain (pc' := 489) rfl dL_law_488 rfl (ihN rfl) rfl ?_
  refine bplain (pc' := 490) rfl dL_law_489 rfl (ihN rfl) rfl ?_
  refine bplain (pc' := 491) rfl dL_law_490 rfl (ihN rfl) rfl ?_
  refine bplain (pc' := 492) rfl dL_law_491 rfl (ihN rfl) rfl ?_
  refine bplain (pc' := 493) rfl dL_law_492 rfl (ihN rfl) rfl ?_
  refine bplain (pc' := 494) rfl dL_law_493 rfl (ihN rfl) rfl ?_
  refine bplain (pc' := 495) rfl dL_law_494 rfl (ihN rfl) rfl ?_
  refine bplain (pc' := 496) rfl dL_law_495 rfl (ihN rfl) rfl ?_
  refine bplain (pc' := 497) rfl dL_law_496 rfl (ihN rfl) rfl ?_
  refine bplain (pc' := 498) rfl dL_law_497 rfl (ihN rfl) rfl ?_
  refine bplain (pc' := 499) rfl dL_law_498 rfl (ihN rfl) rfl ?_
  refine bplain (pc' := 500) rfl dL_law_499 rfl (ihN rfl) rfl ?_
  refine bplain (pc' := 501) rfl dL_law_500 rfl (ihN rfl) rfl ?_
  refine bplain (pc' := 502) rfl dL_law_501 rfl (ihN rfl) rfl ?_
  refine bcall (pc' := 505) rfl dL_law_502 rfl (trivial) (lcv (n := 3) rfl (pvc (lfv mt_X0_refer ⟨by decide, by decide⟩ mok_X0_refer ⟨by decide, by decide⟩ ⟨q1764, ln_255, Or.inl ⟨q1763, Or.inl q1765⟩⟩) (trivial)) (Or.inl (by decide))) (ihN rfl) rfl ?_
  refine bplain (pc' := 506) rfl dL_law_505 rfl (ihN rfl) rfl ?_
  refine bplain (pc' := 507) rfl dL_law_506 rfl (ihN rfl) rfl ?_
  refine bplain (pc' := 508) rfl dL_law_507 rfl (ihN rfl) rfl ?_
  refine bplain (pc' := 509) rfl dL_law_508 rfl (ihN rfl) rfl ?_
  refine bplain (pc' := 510) rfl dL_law_509 rfl (ihN rfl) rfl ?_
  refine bplain (pc' := 511) rfl dL_law_510 rfl (ihN rfl) rfl ?_
  refine bplain (pc' := 512) rfl dL_law_511 rfl (ihN rfl) rfl ?_
  refine bplain (pc' := 513) rfl dL_law_512 rfl (ihN rfl) rfl ?_
  refine bplain (pc' := 514) rfl dL_law_513 rfl (ihN rfl) rfl ?_
  refine bplain (pc' := 515) rfl dL_law_514 rfl (ihN rfl) rfl ?_
  refine bplain (pc' := 516) rfl dL_law_515 rfl (ihN rfl) rfl ?_
  refine bplain (pc' := 517) rfl dL_law_516 rfl (ihN rfl) rfl ?_
  refine bplain (pc' := 518) rfl dL_law_517 rfl (ihN rfl) rfl ?_
  refine bplain (pc' := 519) rfl dL_law_518 rfl (ihN rfl) rfl ?_
  refine bplain (pc' := 520) rfl dL_law_519 rfl (ihN rfl) rfl ?_
  refine bplain (pc' := 521) rfl dL_law_520 rfl (ihN rfl) rfl ?_
  refine bcall (pc' := 524) rfl dL_law_521 rfl (trivial) (lcv (n := 3) rfl (pvc (lfv mt_X3_refer ⟨by decide, by decide⟩ mok_X3_refer ⟨by decide, by decide⟩ ⟨q2817, ln_255, Or.inl ⟨q2816, Or.inl q2818⟩⟩) (trivial)) (Or.inl (by decide))) (ihN rfl) rfl ?_
  refine bjmp (tg := 1465) (pc' := 527) rfl (by decide) (by decide) rfl dL_law_524 rfl (ihN rfl) rfl ?_
  refine bplain (pc' := 528) rfl dL_law_527 rfl (ihN rfl) rfl ?_
  refine bret (pc' := 529) rfl dL_law_528 rfl (Or.inr ⟨rfl, rfl⟩) (ihN rfl) rfl ?_
  exact trivial
theorem bf_L_law_529 : BOKt mt tL_law 413 529 b_L_law_529 := by
  refine bplain (pc' := 530) rfl dL_law_529 rfl (ihN rfl) rfl ?_
  refine bplain (pc' := 531) rfl dL_law_530 rfl (ihN rfl) rfl ?_
  refine bplain (pc' := 532) rfl dL_law_531 rfl (ihN rfl) rfl ?_
  refine bplain (pc' := 533) rfl dL_law_532 rfl (ihN rfl) rfl ?_
  refine bplain (pc' := 534) rfl dL_law_533 rfl (ihN rfl) rfl ?_
  refine bplain (pc' := 535) rfl dL_law_534 rfl (ihN rfl) rfl ?_
  refine bplain (pc' := 536) rfl dL_law_535 rfl (ihN rfl) rfl ?_
  refine bplain (pc' := 537) rfl dL_law_536 rfl (ihN rfl) rfl ?_
  refine bplain (pc' := 538) rfl dL_law_537 rfl (ihN rfl) rfl ?_
  refine bplain (pc' := 539) rfl dL_law_538 rfl (ihN rfl) rfl ?_
  refine bplain (pc' := 540) rfl dL_law_539 rfl (ihN rfl) rfl ?_
  refine bplain (pc' := 541) rfl dL_law_540 rfl (ihN rfl) rfl ?_
  refine bplain (pc' := 542) rfl dL_law_541 rfl (ihN rfl) rfl ?_
  refine bplain (pc' := 543) rfl dL_law_542 rfl (ihN rfl) rfl ?_
  refine bplain (pc' := 544) rfl dL_law_543 rfl (ihN rfl) rfl ?_
  refine bplain (pc' := 545) rfl dL_law_544 rfl (ihN rfl) rfl ?_
  refine bplain (pc' := 546) rfl dL_law_545 rfl (ihN rfl) rfl ?_
  refine bplain (pc' := 547) rfl dL_law_546 rfl (ihN rfl) rfl ?_
  refine bplain (pc' := 548) rfl dL_law_547 rfl (ihN rfl) rfl ?_
  refine bplain (pc' := 549) rfl dL_law_548 rfl (ihN rfl) rfl ?_
  refine bplain (pc' := 550) rfl dL_law_549 rfl (ihN rfl) rfl ?_
  refine bplain (pc' := 551) rfl dL_law_550 rfl (ihN rfl) rfl ?_
  refine bplain (pc' := 552) rfl dL_law_551 rfl (ihN rfl) rfl ?_
  refine bplain (pc' := 553) rfl dL_law_552 rfl (ihN rfl) rfl ?_
  refine bplain (pc' := 554) rfl dL_law_553 rfl (ihN rfl) rfl ?_
  refine bplain (pc' := 555) rfl dL_law_554 rfl (ihN rfl) rfl ?_
  refine bcall (pc' := 558) rfl dL_law_555 rfl (trivial) (lcv (n := 5) rfl (pvc (lfv mt_X0_place ⟨by decide, by decide⟩ mok_X0_place ⟨by decide, by decide⟩ ⟨q1791, ln_385, Or.inl ⟨q1790, Or.inl q1792⟩⟩) (trivial)) (Or.inl (by decide))) (ihN rfl) rfl ?_
  refine bplain (pc' := 559) rfl dL_law_558 rfl (ihN rfl) rfl ?_
  refine bplain (pc' := 560) rfl dL_law_559 rfl (ihN rfl) rfl ?_
  refine bplain (pc' := 561) rfl dL_law_560 rfl (ihN rfl) rfl ?_
  refine bplain (pc' := 562) rfl dL_law_561 rfl (ihN rfl) rfl ?_
  refine bplain (pc' := 563) rfl dL_law_562 rfl (ihN rfl) rfl ?_
  refine bplain (pc' := 564) rfl dL_law_563 rfl (ihN rfl) rfl ?_
  refine bplain (pc' := 565) rfl dL_law_564 rfl (ihN rfl) rfl ?_
  refine bplain (pc' := 566) rfl dL_law_565 rfl (ihN rfl) rfl ?_
  refine bplain (pc' := 567) rfl dL_law_566 rfl (ihN rfl) rfl ?_
  refine bplain (pc' := 568) rfl dL_law_567 rfl (ihN rfl) rfl ?_
  refine bplain (pc' := 569) rfl dL_law_568 rfl (ihN rfl) rfl ?_
  refine bplain (pc' := 570) rfl dL_law_569 rfl (ihN rfl) rfl ?_
  refine bplain (pc' := 571) rfl dL_law_570 rfl (ihN rfl) rfl ?_
  refine bplain (pc' := 572) rfl dL_law_571 rfl (ihN rfl) rfl ?_
  refine bplain (pc' := 573) rfl dL_law_572 rfl (ihN rfl) rfl ?_
  refine bplain (pc' := 574) rfl dL_law_573 rfl (ihN rfl) rfl ?_
  refine bplain (pc' := 575) rfl dL_law_574 rfl (ihN rfl) rfl ?_
  refine bplain (pc' := 576) rfl dL_law_575 rfl (ihN rfl) rfl ?_
  refine bplain (pc' := 577) rfl dL_law_576 rfl (ihN rfl) rfl ?_
  refine bplain (pc' := 578) rfl dL_law_577 rfl (ihN rfl) rfl ?_
  refine bplain (pc' := 579) rfl dL_law_578 rfl (ihN rfl) rfl ?_
  refine bplain (pc' := 580) rfl dL_law_579 rfl (ihN rfl) rfl ?_
  refine bplain (pc' := 581) rfl dL_law_580 rfl (ihN rfl) rfl ?_
  refine bplain (pc' := 582) rfl dL_law_581 rfl (ihN rfl) rfl ?_
  refine bplain (pc' := 583) rfl dL_law_582 rfl (ihN rfl) rfl ?_
  refine bplain (pc' := 584) rfl dL_law_583 rfl (ihN rfl) rfl ?_
  refine bcall (pc' := 587) rfl dL_law_584 rfl (trivial) (lcv (n := 5) rfl (pvc (lfv mt_X3_place ⟨by decide, by decide⟩ mok_X3_place ⟨by decide, by decide⟩ ⟨q2825, ln_385, Or.inl ⟨q2824, Or.inl q2826⟩⟩) (trivial)) (Or.inl (by decide))) (ihN rfl) rfl ?_
  refine bjmp (tg := 1465) (pc' := 590) rfl (by decide) (by decide) rfl dL_law_587 rfl (ihN rfl) rfl ?_
  refine bplain (pc' := 591) rfl dL_law_590 rfl (ihN rfl) rfl ?_
  refine bret (pc' := 592) rfl dL_law_591 rfl (Or.inr ⟨rfl, rfl⟩) (ihN rfl) rfl ?_
  exact trivial
theorem bf_L_law_592 : BOKt mt tL_law 413 592 b_L_law_592 := by
  refine bplain (pc' := 593) rfl dL_law_592 rfl (ihN rfl) rfl ?_
  refine bplain (pc' := 594) rfl dL_law_593 rfl (ihN rfl) rfl ?_
  refine bplain (pc' := 595) rfl dL_law_594 rfl (ihN rfl) rfl ?_
  refine bplain (pc' := 596) rfl dL_law_595 rfl (ihN rfl) rfl ?_
  refine bplain (pc' := 597) rfl dL_law_596 rfl (ihN rfl) rfl ?_
  refine bplain (pc' := 598) rfl dL_law_597 rfl (ihN rfl) rfl ?_
  refine bplain (pc' := 599) rfl dL_law_598 rfl (ihN rfl) rfl ?_
  refine bplain (pc' := 600) rfl dL_law_599 rfl (ihN rfl) rfl ?_
  refine bplain (pc' := 601) rfl dL_law_600 rfl (ihN rfl) rfl ?_
  refine bplain (pc' := 602) rfl dL_law_601 rfl (ihN rfl) rfl ?_
  refine bplain (pc' := 603) rfl dL_law_602 rfl (ihN rfl) rfl ?_
  refine bplain (pc' := 604) rfl dL_law_603 rfl (ihN rfl) rfl ?_
  refine bplain (pc' := 605) rfl dL_law_604 rfl (ihN rfl) rfl ?_
  refine bplain (pc' := 606) rfl dL_law_605 rfl (ihN rfl) rfl ?_
  refine bplain (pc' := 607) rfl dL_law_606 rfl (ihN rfl) rfl ?_
  refine bplain (pc' := 608) rfl dL_law_607 rfl (ihN rfl) rfl ?_
  refine bcall (pc' := 611) rfl dL_law_608 rfl (trivial) (lcv (n := 3) rfl (pvc (lfv mt_X0_guard ⟨by decide, by decide⟩ mok_X0_guard ⟨by decide, by decide⟩ ⟨q1807, ln_255, Or.inl ⟨q1806, Or.inl q1808⟩⟩) (trivial)) (Or.inl (by decide))) (ihN rfl) rfl ?_
  refine bplain (pc' := 612) rfl dL_law_611 rfl (ihN rfl) rfl ?_
  refine bplain (pc' := 613) rfl dL_law_612 rfl (ihN rfl) rfl ?_
  refine bplain (pc' := 614) rfl dL_law_613 rfl (ihN rfl) rfl ?_
  refine bplain (pc' := 615) rfl dL_law_614 rfl (ihN rfl) rfl ?_
  refine bplain (pc' := 616) rfl dL_law_615 rfl (ihN rfl) rfl ?_
  refine bplain (pc' := 617) rfl dL_law_616 rfl (ihN rfl) rfl ?_
  refine bplain (pc' := 618) rfl dL_law_617 rfl (ihN rfl) rfl ?_
  refine bplain (pc' := 619) rfl dL_law_618 rfl (ihN rfl) rfl ?_
  refine bplain (pc' := 620) rfl dL_law_619 rfl (ihN rfl) rfl ?_
  refine bplain (pc' := 621) rfl dL_law_620 rfl (ihN rfl) rfl ?_
  refine bplain (pc' := 622) rfl dL_law_621 rfl (ihN rfl) rfl ?_
  refine bplain (pc' := 623) rfl dL_law_622 rfl (ihN rfl) rfl ?_
  refine bplain (pc' := 624) rfl dL_law_623 rfl (ihN rfl) rfl ?_
  refine bplain (pc' := 625) rfl dL_law_624 rfl (ihN rfl) rfl ?_
  refine bplain (pc' := 626) rfl dL_law_625 rfl (ihN rfl) rfl ?_
  refine bplain (pc' := 627) rfl dL_law_626 rfl (ihN rfl) rfl ?_
  refine bcall (pc' := 630) rfl dL_law_627 rfl (trivial) (lcv (n := 3) rfl (pvc (lfv mt_X3_guard ⟨by decide, by decide⟩ mok_X3_guard ⟨by decide, by decide⟩ ⟨q2829, ln_255, Or.inl ⟨q2828, Or.inl q2830⟩⟩) (trivial)) (Or.inl (by decide))) (ihN rfl) rfl ?_
  refine bjmp (tg := 1465) (pc' := 633) rfl (by decide) (by decide) rfl dL_law_630 rfl (ihN rfl) rfl ?_
  refine bplain (pc' := 634) rfl dL_law_633 rfl (ihN rfl) rfl ?_
  refine bret (pc' := 635) rfl dL_law_634 rfl (Or.inr ⟨rfl, rfl⟩) (ihN rfl) rfl ?_
  exact trivial
theorem bf_L_law_635 : BOKt mt tL_law 413 635 b_L_law_635 := by
  refine bplain (pc' := 636) rfl dL_law_635 rfl (ihN rfl) rfl ?_
  refine bplain (pc' := 637) rfl dL_law_636 rfl (ihN rfl) rfl ?_
  refine bplain (pc' := 638) rfl dL_law_637 rfl (ihN rfl) rfl ?_
  refine bplain (pc' := 639) rfl dL_law_638 rfl (ihN rfl) rfl ?_
  refine bplain (pc' := 640) rfl dL_law_639 rfl (ihN rfl) rfl ?_
  refine bplain (pc' := 641) rfl dL_law_640 rfl (ihN rfl) rfl ?_
  refine bplain (pc' := 642) rfl dL_law_641 rfl (ihN rfl) rfl ?_
  refine bplain (pc' := 643) rfl dL_law_642 rfl (ihN rfl) rfl ?_
  refine bplain (pc' := 644) rfl dL_law_643 rfl (ihN rfl) rfl ?_
  refine bplain (pc' := 645) rfl dL_law_644 rfl (ihN rfl) rfl ?_
  refine bplain (pc' := 646) rfl dL_law_645 rfl (ihN rfl) rfl ?_
  refine bcall (pc' := 649) rfl dL_law_646 rfl (trivial) (lcv (n := 2) rfl (pvc (lfv mt_X0_mask ⟨by decide, by decide⟩ mok_X0_mask ⟨by decide, by decide⟩ ⟨q1819, ln_252, Or.inl ⟨q1818, Or.inl q1820⟩⟩) (trivial)) (Or.inl (by decide))) (ihN rfl) rfl ?_
  refine bplain (pc' := 650) rfl dL_law_649 rfl (ihN rfl) rfl ?_
  refine bplain (pc' := 651) rfl dL_law_650 rfl (ihN rfl) rfl ?_
  refine bplain (pc' := 652) rfl dL_law_651 rfl (ihN rfl) rfl ?_
  refine bplain (pc' := 653) rfl dL_law_652 rfl (ihN rfl) rfl ?_
  refine bplain (pc' := 654) rfl dL_law_653 rfl (ihN rfl) rfl ?_
  refine bplain (pc' := 655) rfl dL_law_654 rfl (ihN rfl) rfl ?_
  refine bplain (pc' := 656) rfl dL_law_655 rfl (ihN rfl) rfl ?_
  refine bplain (pc' := 657) rfl dL_law_656 rfl (ihN rfl) rfl ?_
  refine bplain (pc' := 658) rfl dL_law_657 rfl (ihN rfl) rfl ?_
  refine bplain (pc' := 659) rfl dL_law_658 rfl (ihN rfl) rfl ?_
  refine bplain (pc' := 660) rfl dL_law_659 rfl (ihN rfl) rfl ?_
  refine bcall (pc' := 663) rfl dL_law_660 rfl (trivial) (lcv (n := 2) rfl (pvc (lfv mt_X3_mask ⟨by decide, by decide⟩ mok_X3_mask ⟨by decide, by decide⟩ ⟨q2833, ln_252, Or.inl ⟨q2832, Or.inl q2834⟩⟩) (trivial)) (Or.inl (by decide))) (ihN rfl) rfl ?_
  refine bjmp (tg := 1465) (pc' := 666) rfl (by decide) (by decide) rfl dL_law_663 rfl (ihN rfl) rfl ?_
  refine bplain (pc' := 667) rfl dL_law_666 rfl (ihN rfl) rfl ?_
  refine bret (pc' := 668) rfl dL_law_667 rfl (Or.inr ⟨rfl, rfl⟩) (ihN rfl) rfl ?_
  exact trivial
theorem bf_L_law_668 : BOKt mt tL_law 413 668 b_L_law_668 := by
  refine bplain (pc' := 669) rfl dL_law_668 rfl (ihN rfl) rfl ?_
  refine bcall (pc' := 672) rfl dL_law_669 rfl (trivial) (lcv (n := 0) rfl (pvc (lfv mt_X0_undo ⟨by decide, by decide⟩ mok_X0_undo ⟨by decide, by decide⟩ ⟨q1826, ln_40, Or.inl ⟨q1825, Or.inl q1827⟩⟩) (trivial)) (Or.inl (by decide))) (ihN rfl) rfl ?_
  refine bplain (pc' := 673) rfl dL_law_672 rfl (ihN rfl) rfl ?_
  refine bcall (pc' := 676) rfl dL_law_673 rfl (trivial) (lcv (n := 0) rfl (pvc (lfv mt_X3_undo ⟨by decide, by decide⟩ mok_X3_undo ⟨by decide, by decide⟩ ⟨q2837, ln_40, Or.inl ⟨q2836, Or.inl q2838⟩⟩) (trivial)) (Or.inl (by decide))) (ihN rfl) rfl ?_
  refine bjmp (tg := 1465) (pc' := 679) rfl (by decide) (by decide) rfl dL_law_676 rfl (ihN rfl) rfl ?_
  refine bplain (pc' := 680) rfl dL_law_679 rfl (ihN rfl) rfl ?_
  refine bret (pc' := 681) rfl dL_law_680 rfl (Or.inr ⟨rfl, rfl⟩) (ihN rfl) rfl ?_
  exact trivial
theorem bf_L_law_681 : BOKt mt tL_law 413 681 b_L_law_681 := by
  refine bplain (pc' := 682) rfl dL_law_681 rfl (ihN rfl) rfl ?_
  refine bplain (pc' := 683) rfl dL_law_682 rfl (ihN rfl) rfl ?_
  refine bplain (pc' := 684) rfl dL_law_683 rfl (ihN rfl) rfl ?_
  refine bplain (pc' := 685) rfl dL_law_684 rfl (ihN rfl) rfl ?_
  refine bplain (pc' := 686) rfl dL_law_685 rfl (ihN rfl) rfl ?_
  refine bplain (pc' := 687) rfl dL_law_686 rfl (ihN rfl) rfl ?_
  refine bplain (pc' := 688) rfl dL_law_687 rfl (ihN rfl) rfl ?_
  refine bplain (pc' := 689) rfl dL_law_688 rfl (ihN rfl) rfl ?_
  refine bplain (pc' := 690) rfl dL_law_689 rfl (ihN rfl) rfl ?_
  refine bplain (pc' := 691) rfl dL_law_690 rfl (ihN rfl) rfl ?_
  refine bplain (pc' := 692) rfl dL_law_691 rfl (ihN rfl) rfl ?_
  refine bcall (pc' := 695) rfl dL_law_692 rfl (trivial) (lcv (n := 2) rfl (pvc (lfv mt_X0_info ⟨by decide, by decide⟩ mok_X0_info ⟨by decide, by decide⟩ ⟨q1841, ln_252, Or.inl ⟨q1840, Or.inl q1842⟩⟩) (trivial)) (Or.inl (by decide))) (ihN rfl) rfl ?_
  refine bplain (pc' := 696) rfl dL_law_695 rfl (ihN rfl) rfl ?_
  refine bplain (pc' := 697) rfl dL_law_696 rfl (ihN rfl) rfl ?_
  refine bplain (pc' := 698) rfl dL_law_697 rfl (ihN rfl) rfl ?_
  refine bplain (pc' := 699) rfl dL_law_698 rfl (ihN rfl) rfl ?_
  refine bplain (pc' := 700) rfl dL_law_699 rfl (ihN rfl) rfl ?_
  refine bplain (pc' := 701) rfl dL_law_700 rfl (ihN rfl) rfl ?_
  refine bplain (pc' := 702) rfl dL_law_701 rfl (ihN rfl) rfl ?_
  refine bplain (pc' := 703) rfl dL_law_702 rfl (ihN rfl) rfl ?_
  refine bplain (pc' := 704) rfl dL_law_703 rfl (ihN rfl) rfl ?_
  refine bplain (pc' := 705) rfl dL_law_704 rfl (ihN rfl) rfl ?_
  refine bplain (pc' := 706) rfl dL_law_705 rfl (ihN rfl) rfl ?_
  refine bcall (pc' := 709) rfl dL_law_706 rfl (trivial) (lcv (n := 2) rfl (pvc (lfv mt_X3_info ⟨by decide, by decide⟩ mok_X3_info ⟨by decide, by decide⟩ ⟨q2841, ln_252, Or.inl ⟨q2840, Or.inl q2842⟩⟩) (trivial)) (Or.inl (by decide))) (ihN rfl) rfl ?_
  refine bjmp (tg := 1465) (pc' := 712) rfl (by decide) (by decide) rfl dL_law_709 rfl (ihN rfl) rfl ?_
  refine bplain (pc' := 713) rfl dL_law_712 rfl (ihN rfl) rfl ?_
  refine bret (pc' := 714) rfl dL_law_713 rfl (Or.inr ⟨rfl, rfl⟩) (ihN rfl) rfl ?_
  exact trivial
theorem bf_L_law_714 : BOKt mt tL_law 413 714 b_L_law_714 := by
  refine bplain (pc' := 715) rfl dL_law_714 rfl (ihN rfl) rfl ?_
  refine bplain (pc' := 716) rfl dL_law_715 rfl (ihN rfl) rfl ?_
  refine bplain (pc' := 717) rfl dL_law_716 rfl (ihN rfl) rfl ?_
  refine bplain (pc' := 718) rfl dL_law_717 rfl (ihN rfl) rfl ?_
  refine bplain (pc' := 719) rfl dL_law_718 rfl (ihN rfl) rfl ?_
  refine bplain (pc' := 720) rfl dL_law_719 rfl (ihN rfl) rfl ?_
  refine bplain (pc' := 721) rfl dL_law_720 rfl (ihN rfl) rfl ?_
  refine bplain (pc' := 722) rfl dL_law_721 rfl (ihN rfl) rfl ?_
  refine bplain (pc' := 723) rfl dL_law_722 rfl (ihN rfl) rfl ?_
  refine bplain (pc' := 724) rfl dL_law_723 rfl (ihN rfl) rfl ?_
  refine bplain (pc' := 725) rfl dL_law_724 rfl (ihN rfl) rfl ?_
  refine bplain (pc' := 726) rfl dL_law_725 rfl (ihN rfl) rfl ?_
  refine bplain (pc' := 727) rfl dL_law_726 rfl (ihN rfl) rfl ?_
  refine bplain (pc' := 728) rfl dL_law_727 rfl (ihN rfl) rfl ?_
  refine bplain (pc' := 729) rfl dL_law_728 rfl (ihN rfl) rfl ?_
  refine bplain (pc' := 730) rfl dL_law_729 rfl (ihN rfl) rfl ?_
  refine bcall (pc' := 733) rfl dL_law_730 rfl (trivial) (lcv (n := 3) rfl (pvc (lfv mt_X0_reference ⟨by decide, by decide⟩ mok_X0_reference ⟨by decide, by decide⟩ ⟨q1894, ln_255, Or.inl ⟨q1893, Or.inl q1895⟩⟩) (trivial)) (Or.inl (by decide))) (ihN rfl) rfl ?_
  refine bplain (pc' := 734) rfl dL_law_733 rfl (ihN rfl) rfl ?_
  refine bplain (pc' := 735) rfl dL_law_734 rfl (ihN rfl) rfl ?_
  refine bplain (pc' := 736) rfl dL_law_735 rfl (ihN rfl) rfl ?_
  refine bplain (pc' := 737) rfl dL_law_736 rfl (ihN rfl) rfl ?_
  refine bplain (pc' := 738) rfl dL_law_737 rfl (ihN rfl) rfl ?_
  refine bplain (pc' := 739) rfl dL_law_738 rfl (ihN rfl) rfl ?_
  refine bplain (pc' := 740) rfl dL_law_739 rfl (ihN rfl) rfl ?_
  refine bplain (pc' := 741) rfl dL_law_740 rfl (ihN rfl) rfl ?_
  refine bplain (pc' := 742) rfl dL_law_741 rfl (ihN rfl) rfl ?_
  refine bplain (pc' := 743) rfl dL_law_742 rfl (ihN rfl) rfl ?_
  refine bplain (pc' := 744) rfl dL_law_743 rfl (ihN rfl) rfl ?_
  refine bplain (pc' := 745) rfl dL_law_744 rfl (ihN rfl) rfl ?_
  refine bplain (pc' := 746) rfl dL_law_745 rfl (ihN rfl) rfl ?_
  refine bplain (pc' := 747) rfl dL_law_746 rfl (ihN rfl) rfl ?_
  refine bplain (pc' := 748) rfl dL_law_747 rfl (ihN rfl) rfl ?_
  refine bplain (pc' := 749) rfl dL_law_748 rfl (ihN rfl) rfl ?_
  refine bcall (pc' := 752) rfl dL_law_749 rfl (trivial) (lcv (n := 3) rfl (pvc (lfv mt_X3_reference ⟨by decide, by decide⟩ mok_X3_reference ⟨by decide, by decide⟩ ⟨q2868, ln_255, Or.inl ⟨q2867, Or.inl q2869⟩⟩) (trivial)) (Or.inl (by decide))) (ihN rfl) rfl ?_
  refine bjmp (tg := 1465) (pc' := 755) rfl (by decide) (by decide) rfl dL_law_752 rfl (ihN rfl) rfl ?_
  refine bplain (pc' := 756) rfl dL_law_755 rfl (ihN rfl) rfl ?_
  refine bret (pc' := 757) rfl dL_law_756 rfl (Or.inr ⟨rfl, rfl⟩) (ihN rfl) rfl ?_
  exact trivial
theorem bf_L_law_757 : BOKt mt tL_law 413 757 b_L_law_757 := by
  refine bplain (pc' := 758) rfl dL_law_757 rfl (ihN rfl) rfl ?_
  refine bplain (pc' := 759) rfl dL_law_758 rfl (ihN rfl) rfl ?_
  refine bplain (pc' := 760) rfl dL_law_759 rfl (ihN rfl) rfl ?_
  refine bplain (pc' := 761) rfl dL_law_760 rfl (ihN rfl) rfl ?_
  refine bplain (pc' := 762) rfl dL_law_761 rfl (ihN rfl) rfl ?_
  refine bplain (pc' := 763) rfl dL_law_762 rfl (ihN rfl) rfl ?_
  refine bplain (pc' := 764) rfl dL_law_763 rfl (ihN rfl) rfl ?_
  refine bplain (pc' := 765) rfl dL_law_764 rfl (ihN rfl) rfl ?_
  refine bplain (pc' := 766) rfl dL_law_765 rfl (ihN rfl) rfl ?_
  refine bplain (pc' := 767) rfl dL_law_766 rfl (ihN rfl) rfl ?_
  refine bplain (pc' := 768) rfl dL_law_767 rfl (ihN rfl) rfl ?_
  refine bplain (pc' := 769) rfl dL_law_768 rfl (ihN rfl) rfl ?_
  refine bplain (pc' := 770) rfl dL_law_769 rfl (ihN rfl) rfl ?_
  refine bplain (pc' := 771) rfl dL_law_770 rfl (ihN rfl) rfl ?_
  refine bplain (pc' := 772) rfl dL_law_771 rfl (ihN rfl) rfl ?_
  refine bplain (pc' := 773) rfl dL_law_772 rfl (ihN rfl) rfl ?_
  refine bcall (pc' := 776) rfl dL_law_773 rfl (trivial) (lcv (n := 3) rfl (pvc (lfv mt_X0_section ⟨by decide, by decide⟩ mok_X0_section ⟨by decide, by decide⟩ ⟨q1904, ln_255, Or.inl ⟨q1903, Or.inl q1905⟩⟩) (trivial)) (Or.inl (by decide))) (ihN rfl) rfl ?_
  refine bplain (pc' := 777) rfl dL_law_776 rfl (ihN rfl) rfl ?_
  refine bplain (pc' := 778) rfl dL_law_777 rfl (ihN rfl) rfl ?_
  refine bplain (pc' := 779) rfl dL_law_778 rfl (ihN rfl) rfl ?_
  refine bplain (pc' := 780) rfl dL_law_779 rfl (ihN rfl) rfl ?_
  refine bplain (pc' := 781) rfl dL_law_780 rfl (ihN rfl) rfl ?_
  refine bplain (pc' := 782) rfl dL_law_781 rfl (ihN rfl) rfl ?_
  refine bplain (pc' := 783) rfl dL_law_782 rfl (ihN rfl) rfl ?_
  refine bplain (pc' := 784) rfl dL_law_783 rfl (ihN rfl) rfl ?_
  refine bplain (pc' := 785) rfl dL_law_784 rfl (ihN rfl) rfl ?_
  refine bplain (pc' := 786) rfl dL_law_785 rfl (ihN rfl) rfl ?_
  refine bplain (pc' := 787) rfl dL_law_786 rfl (ihN rfl) rfl ?_
  refine bplain (pc' := 788) rfl dL_law_787 rfl (ihN rfl) rfl ?_
  refine bplain (pc' := 789) rfl dL_law_788 rfl (ihN rfl) rfl ?_
  refine bplain (pc' := 790) rfl dL_law_789 rfl (ihN rfl) rfl ?_
  refine bplain (pc' := 791) rfl dL_law_790 rfl (ihN rfl) rfl ?_
  refine bplain (pc' := 792) rfl dL_law_791 rfl (ihN rfl) rfl ?_
  refine bcall (pc' := 795) rfl dL_law_792 rfl (trivial) (lcv (n := 3) rfl (pvc (lfv mt_X3_section ⟨by decide, by decide⟩ mok_X3_section ⟨by decide, by decide⟩ ⟨q2876, ln_255, Or.inl ⟨q2875, Or.inl q2877⟩⟩) (trivial)) (Or.inl (by decide))) (ihN rfl) rfl ?_
  refine bjmp (tg := 1465) (pc' := 798) rfl (by decide) (by decide) rfl dL_law_795 rfl (ihN rfl) rfl ?_
  refine bplain (pc' := 799) rfl dL_law_798 rfl (ihN rfl) rfl ?_
  refine bret (pc' := 800) rfl dL_law_799 rfl (Or.inr ⟨rfl, rfl⟩) (ihN rfl) rfl ?_
  exact trivial
theorem bf_L_law_800 : BOKt mt tL_law 413 800 b_L_law_800 := by
  refine bplain (pc' := 801) rfl dL_law_800 rfl (ihN rfl) rfl ?_
  refine bplain (pc' := 802) rfl dL_law_801 rfl (ihN rfl) rfl ?_
  refine bplain (pc' := 803) rfl dL_law_802 rfl (ihN rfl) rfl ?_
  refine bplain (pc' := 804) rfl dL_law_803 rfl (ihN rfl) rfl ?_
  refine bplain (pc' := 805) rfl dL_law_804 rfl (ihN rfl) rfl ?_
  refine bplain (pc' := 806) rfl dL_law_805 rfl (ihN rfl) rfl ?_
  refine bplain (pc' := 807) rfl dL_law_806 rfl (ihN rfl) rfl ?_
  refine bplain (pc' := 808) rfl dL_law_807 rfl (ihN rfl) rfl ?_
  refine bplain (pc' := 809) rfl dL_law_808 rfl (ihN rfl) rfl ?_
  refine bplain (pc' := 810) rfl dL_law_809 rfl (ihN rfl) rfl ?_
  refine bplain (pc' := 811) rfl dL_law_810 rfl (ihN rfl) rfl ?_
  refine bplain (pc' := 812) rfl dL_law_811 rfl (ihN rfl) rfl ?_
  refine bplain (pc' := 813) rfl dL_law_812 rfl (ihN rfl) rfl ?_
  refine bplain (pc' := 814) rfl dL_law_813 rfl (ihN rfl) rfl ?_
  refine bplain (pc' := 815) rfl dL_law_814 rfl (ihN rfl) rfl ?_
  refine bplain (pc' := 816) rfl dL_law_815 rfl (ihN rfl) rfl ?_
  refine bplain (pc' := 817) rfl dL_law_816 rfl (ihN rfl) rfl ?_
  refine bplain (pc' := 818) rfl dL_law_817 rfl (ihN rfl) rfl ?_
  refine bplain (pc' := 819) rfl dL_law_818 rfl (ihN rfl) rfl ?_
  refine bplain (pc' := 820) rfl dL_law_819 rfl (ihN rfl) rfl ?_
  refine bplain (pc' := 821) rfl dL_law_820 rfl (ihN rfl) rfl ?_
  refine bplain (pc' := 822) rfl dL_law_821 rfl (ihN rfl) rfl ?_
  refine bplain (pc' := 823) rfl dL_law_822 rfl (ihN rfl) rfl ?_
  refine bplain (pc' := 824) rfl dL_law_823 rfl (ihN rfl) rfl ?_
  refine bplain (pc' := 825) rfl dL_law_824 rfl (ihN rfl) rfl ?_
  refine bplain (pc' := 826) rfl dL_law_825 rfl (ihN rfl) rfl ?_
  refine bcall (pc' := 829) rfl dL_law_826 rfl (trivial) (lcv (n := 5) rfl (pvc (lfv mt_X0_meet ⟨by decide, by decide⟩ mok_X0_meet ⟨by decide, by decide⟩ ⟨q1957, ln_385, Or.inl ⟨q1956, Or.inl q1958⟩⟩) (trivial)) (Or.inl (by decide))) (ihN rfl) rfl ?_
  refine bplain (pc' := 830) rfl dL_law_829 rfl (ihN rfl) rfl ?_
  refine bplain (pc' := 831) rfl dL_law_830 rfl (ihN rfl) rfl ?_
  refine bplain (pc' := 832) rfl dL_law_831 rfl (ihN rfl) rfl ?_
  refine bplain (pc' := 833) rfl dL_law_832 rfl (ihN rfl) rfl ?_
  refine bplain (pc' := 834) rfl dL_law_833 rfl (ihN rfl) rfl ?_
  refine bplain (pc' := 835) rfl dL_law_834 rfl (ihN rfl) rfl ?_
  refine bplain (pc' := 836) rfl dL_law_835 rfl (ihN rfl) rfl ?_
  refine bplain (pc' := 837) rfl dL_law_836 rfl (ihN rfl) rfl ?_
  refine bplain (pc' := 838) rfl dL_law_837 rfl (ihN rfl) rfl ?_
  refine bplain (pc' := 839) rfl dL_law_838 rfl (ihN rfl) rfl ?_
  refine bplain (pc' := 840) rfl dL_law_839 rfl (ihN rfl) rfl ?_
  refine bplain (pc' := 841) rfl dL_law_840 rfl (ihN rfl) rfl ?_
  refine bplain (pc' := 842) rfl dL_law_841 rfl (ihN rfl) rfl ?_
  refine bplain (pc' := 843) rfl dL_law_842 rfl (ihN rfl) rfl ?_
  refine bplain (pc' := 844) rfl dL_law_843 rfl (ihN rfl) rfl ?_
  refine bplain (pc' := 845) rfl dL_law_844 rfl (ihN rfl) rfl ?_
  refine bplain (pc' := 846) rfl dL_law_845 rfl (ihN rfl) rfl ?_
  refine bplain (pc' := 847) rfl dL_law_846 rfl (ihN rfl) rfl ?_
  refine bplain (pc' := 848) rfl dL_law_847 rfl (ihN rfl) rfl ?_
  refine bplain (pc' := 849) rfl dL_law_848 rfl (ihN rfl) rfl ?_
  refine bplain (pc' := 850) rfl dL_law_849 rfl (ihN rfl) rfl ?_
  refine bplain (pc' := 851) rfl dL_law_850 rfl (ihN rfl) rfl ?_
  refine bplain (pc' := 852) rfl dL_law_851 rfl (ihN rfl) rfl ?_
  refine bplain (pc' := 853) rfl dL_law_852 rfl (ihN rfl) rfl ?_
  refine bplain (pc' := 854) rfl dL_law_853 rfl (ihN rfl) rfl ?_
  refine bplain (pc' := 855) rfl dL_law_854 rfl (ihN rfl) rfl ?_
  refine bcall (pc' := 858) rfl dL_law_855 rfl (trivial) (lcv (n := 5) rfl (pvc (lfv mt_X3_meet ⟨by decide, by decide⟩ mok_X3_meet ⟨by decide, by decide⟩ ⟨q2904, ln_385, Or.inl ⟨q2903, Or.inl q2905⟩⟩) (trivial)) (Or.inl (by decide))) (ihN rfl) rfl ?_
  refine bjmp (tg := 1465) (pc' := 861) rfl (by decide) (by decide) rfl dL_law_858 rfl (ihN rfl) rfl ?_
  refine bplain (pc' := 862) rfl dL_law_861 rfl (ihN rfl) rfl ?_
  refine bret (pc' := 863) rfl dL_law_862 rfl (Or.inr ⟨rfl, rfl⟩) (ihN rfl) rfl ?_
  exact trivial
theorem bf_L_law_863 : BOKt mt tL_law 413 863 b_L_law_863 := by
  refine bplain (pc' := 864) rfl dL_law_863 rfl (ihN rfl) rfl ?_
  refine bplain (pc' := 865) rfl dL_law_864 rfl (ihN rfl) rfl ?_
  refine bplain (pc' := 866) rfl dL_law_865 rfl (ihN rfl) rfl ?_
  refine bplain (pc' := 867) rfl dL_law_866 rfl (ihN rfl) rfl ?_
  refine bplain (pc' := 868) rfl dL_law_867 rfl (ihN rfl) rfl ?_
  refine bplain (pc' := 869) rfl dL_law_868 rfl (ihN rfl) rfl ?_
  refine bplain (pc' := 870) rfl dL_law_869 rfl (ihN rfl) rfl ?_
  refine bplain (pc' := 871) rfl dL_law_870 rfl (ihN rfl) rfl ?_
  refine bplain (pc' := 872) rfl dL_law_871 rfl (ihN rfl) rfl ?_
  refine bplain (pc' := 873) rfl dL_law_872 rfl (ihN rfl) rfl ?_
  refine bplain (pc' := 874) rfl dL_law_873 rfl (ihN rfl) rfl ?_
  refine bcall (pc' := 877) rfl dL_law_874 rfl (trivial) (lcv (n := 2) rfl (pvc (lfv mt_X0_kinds ⟨by decide, by decide⟩ mok_X0_kinds ⟨by decide, by decide⟩ ⟨q1976, ln_252, Or.inl ⟨q1975, Or.inl q1977⟩⟩) (trivial)) (Or.inl (by decide))) (ihN rfl) rfl ?_
  refine bplain (pc' := 878) rfl dL_law_877 rfl (ihN rfl) rfl ?_
  refine bplain (pc' := 879) rfl dL_law_878 rfl (ihN rfl) rfl ?_
  refine bplain (pc' := 880) rfl dL_law_879 rfl (ihN rfl) rfl ?_
  refine bplain (pc' := 881) rfl dL_law_880 rfl (ihN rfl) rfl ?_
  refine bplain (pc' := 882) rfl dL_law_881 rfl (ihN rfl) rfl ?_
  refine bplain (pc' := 883) rfl dL_law_882 rfl (ihN rfl) rfl ?_
  refine bplain (pc' := 884) rfl dL_law_883 rfl (ihN rfl) rfl ?_
  refine bplain (pc' := 885) rfl dL_law_884 rfl (ihN rfl) rfl ?_
  refine bplain (pc' := 886) rfl dL_law_885 rfl (ihN rfl) rfl ?_
  refine bplain (pc' := 887) rfl dL_law_886 rfl (ihN rfl) rfl ?_
  refine bplain (pc' := 888) rfl dL_law_887 rfl (ihN rfl) rfl ?_
  refine bcall (pc' := 891) rfl dL_law_888 rfl (trivial) (lcv (n := 2) rfl (pvc (lfv mt_X3_kinds ⟨by decide, by decide⟩ mok_X3_kinds ⟨by decide, by decide⟩ ⟨q2916, ln_252, Or.inl ⟨q2915, Or.inl q2917⟩⟩) (trivial)) (Or.inl (by decide))) (ihN rfl) rfl ?_
  refine bjmp (tg := 1465) (pc' := 894) rfl (by decide) (by decide) rfl dL_law_891 rfl (ihN rfl) rfl ?_
  refine bplain (pc' := 895) rfl dL_law_894 rfl (ihN rfl) rfl ?_
  refine bret (pc' := 896) rfl dL_law_895 rfl (Or.inr ⟨rfl, rfl⟩) (ihN rfl) rfl ?_
  exact trivial
theorem bf_L_law_896 : BOKt mt tL_law 413 896 b_L_law_896 := by
  refine bplain (pc' := 897) rfl dL_law_896 rfl (ihN rfl) rfl ?_
  refine bplain (pc' := 898) rfl dL_law_897 rfl (ihN rfl) rfl ?_
  refine bplain (pc' := 899) rfl dL_law_898 rfl (ihN rfl) rfl ?_
  refine bplain (pc' := 900) rfl dL_law_899 rfl (ihN rfl) rfl ?_
  refine bplain (pc' := 901) rfl dL_law_900 rfl (ihN rfl) rfl ?_
  refine bplain (pc' := 902) rfl dL_law_901 rfl (ihN rfl) rfl ?_
  refine bplain (pc' := 903) rfl dL_law_902 rfl (ihN rfl) rfl ?_
  refine bplain (pc' := 904) rfl dL_law_903 rfl (ihN rfl) rfl ?_
  refine bplain (pc' := 905) rfl dL_law_904 rfl (ihN rfl) rfl ?_
  refine bplain (pc' := 906) rfl dL_law_905 rfl (ihN rfl) rfl ?_
  refine bplain (pc' := 907) rfl dL_law_906 rfl (ihN rfl) rfl ?_
  refine bplain (pc' := 908) rfl dL_law_907 rfl (ihN rfl) rfl ?_
  refine bplain (pc' := 909) rfl dL_law_908 rfl (ihN rfl) rfl ?_
  refine bplain (pc' := 910) rfl dL_law_909 rfl (ihN rfl) rfl ?_
  refine bplain (pc' := 911) rfl dL_law_910 rfl (ihN rfl) rfl ?_
  refine bplain (pc' := 912) rfl dL_law_911 rfl (ihN rfl) rfl ?_
  refine bplain (pc' := 913) rfl dL_law_912 rfl (ihN rfl) rfl ?_
  refine bplain (pc' := 914) rfl dL_law_913 rfl (ihN rfl) rfl ?_
  refine bplain (pc' := 915) rfl dL_law_914 rfl (ihN rfl) rfl ?_
  refine bplain (pc' := 916) rfl dL_law_915 rfl (ihN rfl) rfl ?_
  refine bplain (pc' := 917) rfl dL_law_916 rfl (ihN rfl) rfl ?_
  refine bcall (pc' := 920) rfl dL_law_917 rfl (trivial) (lcv (n := 4) rfl (pvc (lfv mt_X0_kind ⟨by decide, by decide⟩ mok_X0_kind ⟨by decide, by decide⟩ ⟨q2044, ln_453, Or.inl ⟨q2043, Or.inl q2045⟩⟩) (trivial)) (Or.inl (by decide))) (ihN rfl) rfl ?_
  refine bplain (pc' := 921) rfl dL_law_920 rfl (ihN rfl) rfl ?_
  refine bplain (pc' := 922) rfl dL_law_921 rfl (ihN rfl) rfl ?_
  refine bplain (pc' := 923) rfl dL_law_922 rfl (ihN rfl) rfl ?_
  refine bplain (pc' := 924) rfl dL_law_923 rfl (ihN rfl) rfl ?_
  refine bplain (pc' := 925) rfl dL_law_924 rfl (ihN rfl) rfl ?_
  refine bplain (pc' := 926) rfl dL_law_925 rfl (ihN rfl) rfl ?_
  refine bplain (pc' := 927) rfl dL_law_926 rfl (ihN rfl) rfl ?_
  refine bplain (pc' := 928) rfl dL_law_927 rfl (ihN rfl) rfl ?_
  refine bplain (pc' := 929) rfl dL_law_928 rfl (ihN rfl) rfl ?_
  refine bplain (pc' := 930) rfl dL_law_929 rfl (ihN rfl) rfl ?_
  refine bplain (pc' := 931) rfl dL_law_930 rfl (ihN rfl) rfl ?_
  refine bplain (pc' := 932) rfl dL_law_931 rfl (ihN rfl) rfl ?_
  refine bplain (pc' := 933) rfl dL_law_932 rfl (ihN rfl) rfl ?_
  refine bplain (pc' := 934) rfl dL_law_933 rfl (ihN rfl) rfl ?_
  refine bplain (pc' := 935) rfl dL_law_934 rfl (ihN rfl) rfl ?_
  refine bplain (pc' := 936) rfl dL_law_935 rfl (ihN rfl) rfl ?_
  refine bplain (pc' := 937) rfl dL_law_936 rfl (ihN rfl) rfl ?_
  refine bplain (pc' := 938) rfl dL_law_937 rfl (ihN rfl) rfl ?_
  refine bplain (pc' := 939) rfl dL_law_938 rfl (ihN rfl) rfl ?_
  refine bplain (pc' := 940) rfl dL_law_939 rfl (ihN rfl) rfl ?_
  refine bplain (pc' := 941) rfl dL_law_940 rfl (ihN rfl) rfl ?_
  refine bcall (pc' := 944) rfl dL_law_941 rfl (trivial) (lcv (n := 4) rfl (pvc (lfv mt_X3_kind ⟨by decide, by decide⟩ mok_X3_kind ⟨by decide, by decide⟩ ⟨q2936, ln_453, Or.inl ⟨q2935, Or.inl q2937⟩⟩) (trivial)) (Or.inl (by decide))) (ihN rfl) rfl ?_
  refine bjmp (tg := 1465) (pc' := 947) rfl (by decide) (by decide) rfl dL_law_944 rfl (ihN rfl) rfl ?_
  refine bplain (pc' := 948) rfl dL_law_947 rfl (ihN rfl) rfl ?_
  refine bret (pc' := 949) rfl dL_law_948 rfl (Or.inr ⟨rfl, rfl⟩) (ihN rfl) rfl ?_
  exact trivial
theorem bf_L_law_949 : BOKt mt tL_law 413 949 b_L_law_949 := by
  refine bplain (pc' := 950) rfl dL_law_949 rfl (ihN rfl) rfl ?_
  refine bplain (pc' := 951) rfl dL_law_950 rfl (ihN rfl) rfl ?_
  refine bplain (pc' := 952) rfl dL_law_951 rfl (ihN rfl) rfl ?_
  refine bplain (pc' := 953) rfl dL_law_952 rfl (ihN rfl) rfl ?_
  refine bplain (pc' := 954) rfl dL_law_953 rfl (ihN rfl) rfl ?_
  refine bplain (pc' := 955) rfl dL_law_954 rfl (ihN rfl) rfl ?_
  refine bplain (pc' := 956) rfl dL_law_955 rfl (ihN rfl) rfl ?_
  refine bplain (pc' := 957) rfl dL_law_956 rfl (ihN rfl) rfl ?_
  refine bplain (pc' := 958) rfl dL_law_957 rfl (ihN rfl) rfl ?_
  refine bplain (pc' := 959) rfl dL_law_958 rfl (ihN rfl) rfl ?_
  refine bplain (pc' := 960) rfl dL_law_959 rfl (ihN rfl) rfl ?_
  refine bplain (pc' := 961) rfl dL_law_960 rfl (ihN rfl) rfl ?_
  refine bplain (pc' := 962) rfl dL_law_961 rfl (ihN rfl) rfl ?_
  refine bplain (pc' := 963) rfl dL_law_962 rfl (ihN rfl) rfl ?_
  refine bplain (pc' := 964) rfl dL_law_963 rfl (ihN rfl) rfl ?_
  refine bplain (pc' := 965) rfl dL_law_964 rfl (ihN rfl) rfl ?_
  refine bcall (pc' := 968) rfl dL_law_965 rfl (trivial) (lcv (n := 3) rfl (pvc (lfv mt_X0_many ⟨by decide, by decide⟩ mok_X0_many ⟨by decide, by decide⟩ ⟨q2214, ln_255, Or.inl ⟨q2213, Or.inl q2215⟩⟩) (trivial)) (Or.inl (by decide))) (ihN rfl) rfl ?_
  refine bplain (pc' := 969) rfl dL_law_968 rfl (ihN rfl) rfl ?_
  refine bplain (pc' := 970) rfl dL_law_969 rfl (ihN rfl) rfl ?_
  refine bplain (pc' := 971) rfl dL_law_970 rfl (ihN rfl) rfl ?_
  refine bplain (pc' := 972) rfl dL_law_971 rfl (ihN rfl) rfl ?_
  refine bplain (pc' := 973) rfl dL_law_972 rfl (ihN rfl) rfl ?_
  refine bplain (pc' := 974) rfl dL_law_973 rfl (ihN rfl) rfl ?_
  refine bplain (pc' := 975) rfl dL_law_974 rfl (ihN rfl) rfl ?_
  refine bplain (pc' := 976) rfl dL_law_975 rfl (ihN rfl) rfl ?_
  refine bplain (pc' := 977) rfl dL_law_976 rfl (ihN rfl) rfl ?_
  refine bplain (pc' := 978) rfl dL_law_977 rfl (ihN rfl) rfl ?_
  refine bplain (pc' := 979) rfl dL_law_978 rfl (ihN rfl) rfl ?_
  refine bplain (pc' := 980) rfl dL_law_979 rfl (ihN rfl) rfl ?_
  refine bplain (pc' := 981) rfl dL_law_980 rfl (ihN rfl) rfl ?_
  refine bplain (pc' := 982) rfl dL_law_981 rfl (ihN rfl) rfl ?_
  refine bplain (pc' := 983) rfl dL_law_982 rfl (ihN rfl) rfl ?_
  refine bplain (pc' := 984) rfl dL_law_983 rfl (ihN rfl) rfl ?_
  refine bcall (pc' := 987) rfl dL_law_984 rfl (trivial) (lcv (n := 3) rfl (pvc (lfv mt_X3_many ⟨by decide, by decide⟩ mok_X3_many ⟨by decide, by decide⟩ ⟨q2940, ln_255, Or.inl ⟨q2939, Or.inl q2941⟩⟩) (trivial)) (Or.inl (by decide))) (ihN rfl) rfl ?_
  refine bjmp (tg := 1465) (pc' := 990) rfl (by decide) (by decide) rfl dL_law_987 rfl (ihN rfl) rfl ?_
  refine bplain (pc' := 991) rfl dL_law_990 rfl (ihN rfl) rfl ?_
  refine bret (pc' := 992) rfl dL_law_991 rfl (Or.inr ⟨rfl, rfl⟩) (ihN rfl) rfl ?_
  exact trivial
theorem bf_L_law_992 : BOKt mt tL_law 413 992 b_L_law_992 := by
  refine bplain (pc' := 993) rfl dL_law_992 rfl (ihN rfl) rfl ?_
  refine bplain (pc' := 994) rfl dL_law_993 rfl (ihN rfl) rfl ?_
  refine bplain (pc' := 995) rfl dL_law_994 rfl (ihN rfl) rfl ?_
  refine bplain (pc' := 996) rfl dL_law_995 rfl (ihN rfl) rfl ?_
  refine bplain (pc' := 997) rfl dL_law_996 rfl (ihN rfl) rfl ?_
  refine bplain (pc' := 998) rfl dL_law_997 rfl (ihN rfl) rfl ?_
  refine bplain (pc' := 999) rfl dL_law_998 rfl (ihN rfl) rfl ?_
  refine bplain (pc' := 1000) rfl dL_law_999 rfl (ihN rfl) rfl ?_
  refine bplain (pc' := 1001) rfl dL_law_1000 rfl (ihN rfl) rfl ?_
  refine bplain (pc' := 1002) rfl dL_law_1001 rfl (ihN rfl) rfl ?_
  refine bplain (pc' := 1003) rfl dL_law_1002 rfl (ihN rfl) rfl ?_
  refine bplain (pc' := 1004) rfl dL_law_1003 rfl (ihN rfl) rfl ?_
  refine bplain (pc' := 1005) rfl dL_law_1004 rfl (ihN rfl) rfl ?_
  refine bplain (pc' := 1006) rfl dL_law_1005 rfl (ihN rfl) rfl ?_
  refine bplain (pc' := 1007) rfl dL_law_1006 rfl (ihN rfl) rfl ?_
  refine bplain (pc' := 1008) rfl dL_law_1007 rfl (ihN rfl) rfl ?_
  refine bcall (pc' := 1011) rfl dL_law_1008 rfl (trivial) (lcv (n := 3) rfl (pvc (lfv mt_X0_pieces ⟨by decide, by decide⟩ mok_X0_pieces ⟨by decide, by decide⟩ ⟨q2271, ln_255, Or.inl ⟨q2270, Or.inl q2272⟩⟩) (trivial)) (Or.inl (by decide))) (ihN rfl) rfl ?_
  refine bplain (pc' := 1012) rfl dL_law_1011 rfl (ihN rfl) rfl ?_
  refine bplain (pc' := 1013) rfl dL_law_1012 rfl (ihN rfl) rfl ?_
  refine bplain (pc' := 1014) rfl dL_law_1013 rfl (ihN rfl) rfl ?_
  refine bplain (pc' := 1015) rfl dL_law_1014 rfl (ihN rfl) rfl ?_
  refine bplain (pc' := 1016) rfl dL_law_1015 rfl (ihN rfl) rfl ?_
  refine bplain (pc' := 1017) rfl dL_law_1016 rfl (ihN rfl) rfl ?_
  refine bplain (pc' := 1018) rfl dL_law_1017 rfl (ihN rfl) rfl ?_
  refine bplain (pc' := 1019) rfl dL_law_1018 rfl (ihN rfl) rfl ?_
  refine bplain (pc' := 1020) rfl dL_law_1019 rfl (ihN rfl) rfl ?_
  refine bplain (pc' := 1021) rfl dL_law_1020 rfl (ihN rfl) rfl ?_
  refine bplain (pc' := 1022) rfl dL_law_1021 rfl (ihN rfl) rfl ?_
  refine bplain (pc' := 1023) rfl dL_law_1022 rfl (ihN rfl) rfl ?_
  refine bplain (pc' := 1024) rfl dL_law_1023 rfl (ihN rfl) rfl ?_
  refine bplain (pc' := 1025) rfl dL_law_1024 rfl (ihN rfl) rfl ?_
  refine bplain (pc' := 1026) rfl dL_law_1025 rfl (ihN rfl) rfl ?_
  refine bplain (pc' := 1027) rfl dL_law_1026 rfl (ihN rfl) rfl ?_
  refine bcall (pc' := 1030) rfl dL_law_1027 rfl (trivial) (lcv (n := 3) rfl (pvc (lfv mt_X3_pieces ⟨by decide, by decide⟩ mok_X3_pieces ⟨by decide, by decide⟩ ⟨q2979, ln_255, Or.inl ⟨q2978, Or.inl q2980⟩⟩) (trivial)) (Or.inl (by decide))) (ihN rfl) rfl ?_
  refine bjmp (tg := 1465) (pc' := 1033) rfl (by decide) (by decide) rfl dL_law_1030 rfl (ihN rfl) rfl ?_
  refine bplain (pc' := 1034) rfl dL_law_1033 rfl (ihN rfl) rfl ?_
  refine bret (pc' := 1035) rfl dL_law_1034 rfl (Or.inr ⟨rfl, rfl⟩) (ihN rfl) rfl ?_
  exact trivial
theorem bf_L_law_1035 : BOKt mt tL_law 413 1035 b_L_law_1035 := by
  refine bplain (pc' := 1036) rfl dL_law_1035 rfl (ihN rfl) rfl ?_
  refine bplain (pc' := 1037) rfl dL_law_1036 rfl (ihN rfl) rfl ?_
  refine bplain (pc' := 1038) rfl dL_law_1037 rfl (ihN rfl) rfl ?_
  refine bplain (pc' := 1039) rfl dL_law_1038 rfl (ihN rfl) rfl ?_
  refine bplain (pc' := 1040) rfl dL_law_1039 rfl (ihN rfl) rfl ?_
  refine bplain (pc' := 1041) rfl dL_law_1040 rfl (ihN rfl) rfl ?_
  refine bplain (pc' := 1042) rfl dL_law_1041 rfl (ihN rfl) rfl ?_
  refine bplain (pc' := 1043) rfl dL_law_1042 rfl (ihN rfl) rfl ?_
  refine bplain (pc' := 1044) rfl dL_law_1043 rfl (ihN rfl) rfl ?_
  refine bplain (pc' := 1045) rfl dL_law_1044 rfl (ihN rfl) rfl ?_
  refine bplain (pc' := 1046) rfl dL_law_1045 rfl (ihN rfl) rfl ?_
  refine bplain (pc' := 1047) rfl dL_law_1046 rfl (ihN rfl) rfl ?_
  refine bplain (pc' := 1048) rfl dL_law_1047 rfl (ihN rfl) rfl ?_
  refine bplain (pc' := 1049) rfl dL_law_1048 rfl (ihN rfl) rfl ?_
  refine bplain (pc' := 1050) rfl dL_law_1049 rfl (ihN rfl) rfl ?_
  refine bplain (pc' := 1051) rfl dL_law_1050 rfl (ihN rfl) rfl ?_
  refine bplain (pc' := 1052) rfl dL_law_1051 rfl (ihN rfl) rfl ?_
  refine bplain (pc' := 1053) rfl dL_law_1052 rfl (ihN rfl) rfl ?_
  refine bplain (pc' := 1054) rfl dL_law_1053 rfl (ihN rfl) rfl ?_
  refine bplain (pc' := 1055) rfl dL_law_1054 rfl (ihN rfl) rfl ?_
  refine bplain (pc' := 1056) rfl dL_law_1055 rfl (ihN rfl) rfl ?_
  refine bplain (pc' := 1057) rfl dL_law_1056 rfl (ihN rfl) rfl ?_
  refine bplain (pc' := 1058) rfl dL_law_1057 rfl (ihN rfl) rfl ?_
  refine bplain (pc' := 1059) rfl dL_law_1058 rfl (ihN rfl) rfl ?_
  refine bplain (pc' := 1060) rfl dL_law_1059 rfl (ihN rfl) rfl ?_
  refine bplain (pc' := 1061) rfl dL_law_1060 rfl (ihN rfl) rfl ?_
  refine bcall (pc' := 1064) rfl dL_law_1061 rfl (trivial) (lcv (n := 5) rfl (pvc (lfv mt_X0_piece_2 ⟨by decide, by decide⟩ mok_X0_piece_2 ⟨by decide, by decide⟩ ⟨q2287, ln_385, Or.inl ⟨q2286, Or.inl q2288⟩⟩) (trivial)) (Or.inl (by decide))) (ihN rfl) rfl ?_
  refine bplain (pc' := 1065) rfl dL_law_1064 rfl (ihN rfl) rfl ?_
  refine bplain (pc' := 1066) rfl dL_law_1065 rfl (ihN rfl) rfl ?_
  refine bplain (pc' := 1067) rfl dL_law_1066 rfl (ihN rfl) rfl ?_
  refine bplain (pc' := 1068) rfl dL_law_1067 rfl (ihN rfl) rfl ?_
  refine bplain (pc' := 1069) rfl dL_law_1068 rfl (ihN rfl) rfl ?_
  refine bplain (pc' := 1070) rfl dL_law_1069 rfl (ihN rfl) rfl ?_
  refine bplain (pc' := 1071) rfl dL_law_1070 rfl (ihN rfl) rfl ?_
  refine bplain (pc' := 1072) rfl dL_law_1071 rfl (ihN rfl) rfl ?_
  refine bplain (pc' := 1073) rfl dL_law_1072 rfl (ihN rfl) rfl ?_
  refine bplain (pc' := 1074) rfl dL_law_1073 rfl (ihN rfl) rfl ?_
  refine bplain (pc' := 1075) rfl dL_law_1074 rfl (ihN rfl) rfl ?_
  refine bplain (pc' := 1076) rfl dL_law_1075 rfl (ihN rfl) rfl ?_
  refine bplain (pc' := 1077) rfl dL_law_1076 rfl (ihN rfl) rfl ?_
  refine bplain (pc' := 1078) rfl dL_law_1077 rfl (ihN rfl) rfl ?_
  refine bplain (pc' := 1079) rfl dL_law_1078 rfl (ihN rfl) rfl ?_
  refine bplain (pc' := 1080) rfl dL_law_1079 rfl (ihN rfl) rfl ?_
  refine bplain (pc' := 1081) rfl dL_law_1080 rfl (ihN rfl) rfl ?_
  refine bplain (pc' := 1082) rfl dL_law_1081 rfl (ihN rfl) rfl ?_
  refine bplain (pc' := 1083) rfl dL_law_1082 rfl (ihN rfl) rfl ?_
  refine bplain (pc' := 1084) rfl dL_law_1083 rfl (ihN rfl) rfl ?_
  refine bplain (pc' := 1085) rfl dL_law_1084 rfl (ihN rfl) rfl ?_
  refine bplain (pc' := 1086) rfl dL_law_1085 rfl (ihN rfl) rfl ?_
  refine bplain (pc' := 1087) rfl dL_law_1086 rfl (ihN rfl) rfl ?_
  refine bplain (pc' := 1088) rfl dL_law_1087 rfl (ihN rfl) rfl ?_
  refine bplain (pc' := 1089) rfl dL_law_1088 rfl (ihN rfl) rfl ?_
  refine bplain (pc' := 1090) rfl dL_law_1089 rfl (ihN rfl) rfl ?_
  refine bcall (pc' := 1093) rfl dL_law_1090 rfl (trivial) (lcv (n := 5) rfl (pvc (lfv mt_X3_piece ⟨by decide, by decide⟩ mok_X3_piece ⟨by decide, by decide⟩ ⟨q2994, ln_385, Or.inl ⟨q2993, Or.inl q2995⟩⟩) (trivial)) (Or.inl (by decide))) (ihN rfl) rfl ?_
  refine bjmp (tg := 1465) (pc' := 1096) rfl (by decide) (by decide) rfl dL_law_1093 rfl (ihN rfl) rfl ?_
  refine bplain (pc' := 1097) rfl dL_law_1096 rfl (ihN rfl) rfl ?_
  refine bret (pc' := 1098) rfl dL_law_1097 rfl (Or.inr ⟨rfl, rfl⟩) (ihN rfl) rfl ?_
  exact trivial
theorem bf_L_law_1098 : BOKt mt tL_law 413 1098 b_L_law_1098 := by
  refine bplain (pc' := 1099) rfl dL_law_1098 rfl (ihN rfl) rfl ?_
  refine bplain (pc' := 1100) rfl dL_law_1099 rfl (ihN rfl) rfl ?_
  refine bplain (pc' := 1101) rfl dL_law_1100 rfl (ihN rfl) rfl ?_
  refine bplain (pc' := 1102) rfl dL_law_1101 rfl (ihN rfl) rfl ?_
  refine bplain (pc' := 1103) rfl dL_law_1102 rfl (ihN rfl) rfl ?_
  refine bplain (pc' := 1104) rfl dL_law_1103 rfl (ihN rfl) rfl ?_
  refine bcall (pc' := 1107) rfl dL_law_1104 rfl (trivial) (lcv (n := 1) rfl (pvc (lfv mt_X0_verdict ⟨by decide, by decide⟩ mok_X0_verdict ⟨by decide, by decide⟩ ⟨q2291, ln_225, Or.inl ⟨q2290, Or.inl q2292⟩⟩) (trivial)) (Or.inl (by decide))) (ihN rfl) rfl ?_
  refine bplain (pc' := 1108) rfl dL_law_1107 rfl (ihN rfl) rfl ?_
  refine bplain (pc' := 1109) rfl dL_law_1108 rfl (ihN rfl) rfl ?_
  refine bplain (pc' := 1110) rfl dL_law_1109 rfl (ihN rfl) rfl ?_
  refine bplain (pc' := 1111) rfl dL_law_1110 rfl (ihN rfl) rfl ?_
  refine bplain (pc' := 1112) rfl dL_law_1111 rfl (ihN rfl) rfl ?_
  refine bplain (pc' := 1113) rfl dL_law_1112 rfl (ihN rfl) rfl ?_
  refine bcall (pc' := 1116) rfl dL_law_1113 rfl (trivial) (lcv (n := 1) rfl (pvc (lfv mt_X3_verdict ⟨by decide, by decide⟩ mok_X3_verdict ⟨by decide, by decide⟩ ⟨q3002, ln_225, Or.inl ⟨q3001, Or.inl q3003⟩⟩) (trivial)) (Or.inl (by decide))) (ihN rfl) rfl ?_
  refine bjmp (tg := 1465) (pc' := 1119) rfl (by decide) (by decide) rfl dL_law_1116 rfl (ihN rfl) rfl ?_
  refine bplain (pc' := 1120) rfl dL_law_1119 rfl (ihN rfl) rfl ?_
  refine bret (pc' := 1121) rfl dL_law_1120 rfl (Or.inr ⟨rfl, rfl⟩) (ihN rfl) rfl ?_
  exact trivial
theorem bf_L_law_1121 : BOKt mt tL_law 413 1121 b_L_law_1121 := by
  refine bplain (pc' := 1122) rfl dL_law_1121 rfl (ihN rfl) rfl ?_
  refine bplain (pc' := 1123) rfl dL_law_1122 rfl (ihN rfl) rfl ?_
  refine bplain (pc' := 1124) rfl dL_law_1123 rfl (ihN rfl) rfl ?_
  refine bplain (pc' := 1125) rfl dL_law_1124 rfl (ihN rfl) rfl ?_
  refine bplain (pc' := 1126) rfl dL_law_1125 rfl (ihN rfl) rfl ?_
  refine bplain (pc' := 1127) rfl dL_law_1126 rfl (ihN rfl) rfl ?_
  refine bplain (pc' := 1128) rfl dL_law_1127 rfl (ihN rfl) rfl ?_
  refine bplain (pc' := 1129) rfl dL_law_1128 rfl (ihN rfl) rfl ?_
  refine bplain (pc' := 1130) rfl dL_law_1129 rfl (ihN rfl) rfl ?_
  refine bplain (pc' := 1131) rfl dL_law_1130 rfl (ihN rfl) rfl ?_
  refine bplain (pc' := 1132) rfl dL_law_1131 rfl (ihN rfl) rfl ?_
  refine bcall (pc' := 1135) rfl dL_law_1132 rfl (trivial) (lcv (n := 2) rfl (pvc (lfv mt_X0_would ⟨by decide, by decide⟩ mok_X0_would ⟨by decide, by decide⟩ ⟨q2321, ln_252, Or.inl ⟨q2320, Or.inl q2322⟩⟩) (trivial)) (Or.inl (by decide))) (ihN rfl) rfl ?_
  refine bplain (pc' := 1136) rfl dL_law_1135 rfl (ihN rfl) rfl ?_
  refine bplain (pc' := 1137) rfl dL_law_1136 rfl (ihN rfl) rfl ?_
  refine bplain (pc' := 1138) rfl dL_law_1137 rfl (ihN rfl) rfl ?_
  refine bplain (pc' := 1139) rfl dL_law_1138 rfl (ihN rfl) rfl ?_
  refine bplain (pc' := 1140) rfl dL_law_1139 rfl (ihN rfl) rfl ?_
  refine bplain (pc' := 1141) rfl dL_law_1140 rfl (ihN rfl) rfl ?_
  refine bplain (pc' := 1142) rfl dL_law_1141 rfl (ihN rfl) rfl ?_
  refine bplain (pc' := 1143) rfl dL_law_1142 rfl (ihN rfl) rfl ?_
  refine bplain (pc' := 1144) rfl dL_law_1143 rfl (ihN rfl) rfl ?_
  refine bplain (pc' := 1145) rfl dL_law_1144 rfl (ihN rfl) rfl ?_
  refine bplain (pc' := 1146) rfl dL_law_1145 rfl (ihN rfl) rfl ?_
  refine bcall (pc' := 1149) rfl dL_law_1146 rfl (trivial) (lcv (n := 2) rfl (pvc (lfv mt_X3_would ⟨by decide, by decide⟩ mok_X3_would ⟨by decide, by decide⟩ ⟨q3034, ln_252, Or.inl ⟨q3033, Or.inl q3035⟩⟩) (trivial)) (Or.inl (by decide))) (ihN rfl) rfl ?_
  refine bjmp (tg := 1465) (pc' := 1152) rfl (by decide) (by decide) rfl dL_law_1149 rfl (ihN rfl) rfl ?_
  refine bplain (pc' := 1153) rfl dL_law_1152 rfl (ihN rfl) rfl ?_
  refine bret (pc' := 1154) rfl dL_law_1153 rfl (Or.inr ⟨rfl, rfl⟩) (ihN rfl) rfl ?_
  exact trivial
theorem bf_L_law_1154 : BOKt mt tL_law 413 1154 b_L_law_1154 := by
  refine bplain (pc' := 1155) rfl dL_law_1154 rfl (ihN rfl) rfl ?_
  refine bplain (pc' := 1156) rfl dL_law_1155 rfl (ihN rfl) rfl ?_
  refine bplain (pc' := 1157) rfl dL_law_1156 rfl (ihN rfl) rfl ?_
  refine bplain (pc' := 1158) rfl dL_law_1157 rfl (ihN rfl) rfl ?_
  refine bplain (pc' := 1159) rfl dL_law_1158 rfl (ihN rfl) rfl ?_
  refine bplain (pc' := 1160) rfl dL_law_1159 rfl (ihN rfl) rfl ?_
  refine bplain (pc' := 1161) rfl dL_law_1160 rfl (ihN rfl) rfl ?_
  refine bplain (pc' := 1162) rfl dL_law_1161 rfl (ihN rfl) rfl ?_
  refine bplain (pc' := 1163) rfl dL_law_1162 rfl (ihN rfl) rfl ?_
  refine bplain (pc' := 1164) rfl dL_law_1163 rfl (ihN rfl) rfl ?_
  refine bplain (pc' := 1165) rfl dL_law_1164 rfl (ihN rfl) rfl ?_
  refine bcall (pc' := 1168) rfl dL_law_1165 rfl (trivial) (lcv (n := 2) rfl (pvc (lfv mt_X0_witness ⟨by decide, by decide⟩ mok_X0_witness ⟨by decide, by decide⟩ ⟨q2325, ln_252, Or.inl ⟨q2324, Or.inl q2326⟩⟩) (trivial)) (Or.inl (by decide))) (ihN rfl) rfl ?_
  refine bplain (pc' := 1169) rfl dL_law_1168 rfl (ihN rfl) rfl ?_
  refine bplain (pc' := 1170) rfl dL_law_1169 rfl (ihN rfl) rfl ?_
  refine bplain (pc' := 1171) rfl dL_law_1170 rfl (ihN rfl) rfl ?_
  refine bplain (pc' := 1172) rfl dL_law_1171 rfl (ihN rfl) rfl ?_
  refine bplain (pc' := 1173) rfl dL_law_1172 rfl (ihN rfl) rfl ?_
  refine bplain (pc' := 1174) rfl dL_law_1173 rfl (ihN rfl) rfl ?_
  refine bplain (pc' := 1175) rfl dL_law_1174 rfl (ihN rfl) rfl ?_
  refine bplain (pc' := 1176) rfl dL_law_1175 rfl (ihN rfl) rfl ?_
  refine bplain (pc' := 1177) rfl dL_law_1176 rfl (ihN rfl) rfl ?_
  refine bplain (pc' := 1178) rfl dL_law_1177 rfl (ihN rfl) rfl ?_
  refine bplain (pc' := 1179) rfl dL_law_1178 rfl (ihN rfl) rfl ?_
  refine bcall (pc' := 1182) rfl dL_law_1179 rfl (trivial) (lcv (n := 2) rfl (pvc (lfv mt_X3_witness ⟨by decide, by decide⟩ mok_X3_witness ⟨by decide, by decide⟩ ⟨q3038, ln_252, Or.inl ⟨q3037, Or.inl q3039⟩⟩) (trivial)) (Or.inl (by decide))) (ihN rfl) rfl ?_
  refine bjmp (tg := 1465) (pc' := 1185) rfl (by decide) (by decide) rfl dL_law_1182 rfl (ihN rfl) rfl ?_
  refine bplain (pc' := 1186) rfl dL_law_1185 rfl (ihN rfl) rfl ?_
  refine bret (pc' := 1187) rfl dL_law_1186 rfl (Or.inr ⟨rfl, rfl⟩) (ihN rfl) rfl ?_
  exact trivial
theorem bf_L_law_1187 : BOKt mt tL_law 413 1187 b_L_law_1187 := by
  refine bplain (pc' := 1188) rfl dL_law_1187 rfl (ihN rfl) rfl ?_
  refine bplain (pc' := 1189) rfl dL_law_1188 rfl (ihN rfl) rfl ?_
  refine bplain (pc' := 1190) rfl dL_law_1189 rfl (ihN rfl) rfl ?_
  refine bplain (pc' := 1191) rfl dL_law_1190 rfl (ihN rfl) rfl ?_
  refine bplain (pc' := 1192) rfl dL_law_1191 rfl (ihN rfl) rfl ?_
  refine bplain (pc' := 1193) rfl dL_law_1192 rfl (ihN rfl) rfl ?_
  refine bplain (pc' := 1194) rfl dL_law_1193 rfl (ihN rfl) rfl ?_
  refine bplain (pc' := 1195) rfl dL_law_1194 rfl (ihN rfl) rfl ?_
  refine bplain (pc' := 1196) rfl dL_law_1195 rfl (ihN rfl) rfl ?_
  refine bplain (pc' := 1197) rfl dL_law_1196 rfl (ihN rfl) rfl ?_
  refine bplain (pc' := 1198) rfl dL_law_1197 rfl (ihN rfl) rfl ?_
  refine bplain (pc' := 1199) rfl dL_law_1198 rfl (ihN rfl) rfl ?_
  refine bplain (pc' := 1200) rfl dL_law_1199 rfl (ihN rfl) rfl ?_
  refine bplain (pc' := 1201) rfl dL_law_1200 rfl (ihN rfl) rfl ?_
  refine bplain (pc' := 1202) rfl dL_law_1201 rfl (ihN rfl) rfl ?_
  refine bplain (pc' := 1203) rfl dL_law_1202 rfl (ihN rfl) rfl ?_
  refine bcall (pc' := 1206) rfl dL_law_1203 rfl (trivial) (lcv (n := 3) rfl (pvc (lfv mt_X0_last ⟨by decide, by decide⟩ mok_X0_last ⟨by decide, by decide⟩ ⟨q2337, ln_255, Or.inl ⟨q2336, Or.inl q2338⟩⟩) (trivial)) (Or.inl (by decide))) (ihN rfl) rfl ?_
  refine bplain (pc' := 1207) rfl dL_law_1206 rfl (ihN rfl) rfl ?_
  refine bplain (pc' := 1208) rfl dL_law_1207 rfl (ihN rfl) rfl ?_
  refine bplain (pc' := 1209) rfl dL_law_1208 rfl (ihN rfl) rfl ?_
  refine bplain (pc' := 1210) rfl dL_law_1209 rfl (ihN rfl) rfl ?_
  refine bplain (pc' := 1211) rfl dL_law_1210 rfl (ihN rfl) rfl ?_
  refine bplain (pc' := 1212) rfl dL_law_1211 rfl (ihN rfl) rfl ?_
  refine bplain (pc' := 1213) rfl dL_law_1212 rfl (ihN rfl) rfl ?_
  refine bplain (pc' := 1214) rfl dL_law_1213 rfl (ihN rfl) rfl ?_
  refine bplain (pc' := 1215) rfl dL_law_1214 rfl (ihN rfl) rfl ?_
  refine bplain (pc' := 1216) rfl dL_law_1215 rfl (ihN rfl) rfl ?_
  refine bplain (pc' := 1217) rfl dL_law_1216 rfl (ihN rfl) rfl ?_
  refine bplain (pc' := 1218) rfl dL_law_1217 rfl (ihN rfl) rfl ?_
  refine bplain (pc' := 1219) rfl dL_law_1218 rfl (ihN rfl) rfl ?_
  refine bplain (pc' := 1220) rfl dL_law_1219 rfl (ihN rfl) rfl ?_
  refine bplain (pc' := 1221) rfl dL_law_1220 rfl (ihN rfl) rfl ?_
  refine bplain (pc' := 1222) rfl dL_law_1221 rfl (ihN rfl) rfl ?_
  refine bcall (pc' := 1225) rfl dL_law_1222 rfl (trivial) (lcv (n := 3) rfl (pvc (lfv mt_X3_last ⟨by decide, by decide⟩ mok_X3_last ⟨by decide, by decide⟩ ⟨q3046, ln_255, Or.inl ⟨q3045, Or.inl q3047⟩⟩) (trivial)) (Or.inl (by decide))) (ihN rfl) rfl ?_
  refine bjmp (tg := 1465) (pc' := 1228) rfl (by decide) (by decide) rfl dL_law_1225 rfl (ihN rfl) rfl ?_
  refine bplain (pc' := 1229) rfl dL_law_1228 rfl (ihN rfl) rfl ?_
  refine bret (pc' := 1230) rfl dL_law_1229 rfl (Or.inr ⟨rfl, rfl⟩) (ihN rfl) rfl ?_
  exact trivial
theorem bf_L_law_1230 : BOKt mt tL_law 413 1230 b_L_law_1230 := by
  refine bplain (pc' := 1231) rfl dL_law_1230 rfl (ihN rfl) rfl ?_
  refine bcall (pc' := 1234) rfl dL_law_1231 rfl (trivial) (lcv (n := 0) rfl (pvc (lfv mt_X0_run ⟨by decide, by decide⟩ mok_X0_run ⟨by decide, by decide⟩ ⟨q2342, ln_40, Or.inl ⟨q2341, Or.inl q2343⟩⟩) (trivial)) (Or.inl (by decide))) (ihN rfl) rfl ?_
  refine bplain (pc' := 1235) rfl dL_law_1234 rfl (ihN rfl) rfl ?_
  refine bcall (pc' := 1238) rfl dL_law_1235 rfl (trivial) (lcv (n := 0) rfl (pvc (lfv mt_X3_run ⟨by decide, by decide⟩ mok_X3_run ⟨by decide, by decide⟩ ⟨q3054, ln_40, Or.inl ⟨q3053, Or.inl q3055⟩⟩) (trivial)) (Or.inl (by decide))) (ihN rfl) rfl ?_
  refine bjmp (tg := 1465) (pc' := 1241) rfl (by decide) (by decide) rfl dL_law_1238 rfl (ihN rfl) rfl ?_
  refine bplain (pc' := 1242) rfl dL_law_1241 rfl (ihN rfl) rfl ?_
  refine bret (pc' := 1243) rfl dL_law_1242 rfl (Or.inr ⟨rfl, rfl⟩) (ihN rfl) rfl ?_
  exact trivial
theorem bf_L_law_1243 : BOKt mt tL_law 413 1243 b_L_law_1243 := by
  refine bplain (pc' := 1244) rfl dL_law_1243 rfl (ihN rfl) rfl ?_
  refine bplain (pc' := 1245) rfl dL_law_1244 rfl (ihN rfl) rfl ?_
  refine bplain (pc' := 1246) rfl dL_law_1245 rfl (ihN rfl) rfl ?_
  refine bplain (pc' := 1247) rfl dL_law_1246 rfl (ihN rfl) rfl ?_
  refine bplain (pc' := 1248) rfl dL_law_1247 rfl (ihN rfl) rfl ?_
  refine bplain (pc' := 1249) rfl dL_law_1248 rfl (ihN rfl) rfl ?_
  refine bplain (pc' := 1250) rfl dL_law_1249 rfl (ihN rfl) rfl ?_
  refine bplain (pc' := 1251) rfl dL_law_1250 rfl (ihN rfl) rfl ?_
  refine bplain (pc' := 1252) rfl dL_law_1251 rfl (ihN rfl) rfl ?_
  refine bplain (pc' := 1253) rfl dL_law_1252 rfl (ihN rfl) rfl ?_
  refine bplain (pc' := 1254) rfl dL_law_1253 rfl (ihN rfl) rfl ?_
  refine bplain (pc' := 1255) rfl dL_law_1254 rfl (ihN rfl) rfl ?_
  refine bplain (pc' := 1256) rfl dL_law_1255 rfl (ihN rfl) rfl ?_
  refine bplain (pc' := 1257) rfl dL_law_1256 rfl (ihN rfl) rfl ?_
  refine bplain (pc' := 1258) rfl dL_law_1257 rfl (ihN rfl) rfl ?_
  refine bplain (pc' := 1259) rfl dL_law_1258 rfl (ihN rfl) rfl ?_
  refine bplain (pc' := 1260) rfl dL_law_1259 rfl (ihN rfl) rfl ?_
  refine bplain (pc' := 1261) rfl dL_law_1260 rfl (ihN rfl) rfl ?_
  refine bplain (pc' := 1262) rfl dL_law_1261 rfl (ihN rfl) rfl ?_
  refine bplain (pc' := 1263) rfl dL_law_1262 rfl (ihN rfl) rfl ?_
  refine bplain (pc' := 1264) rfl dL_law_1263 rfl (ihN rfl) rfl ?_
  refine bcall (pc' := 1267) rfl dL_law_1264 rfl (trivial) (lcv (n := 4) rfl (pvc (lfv mt_X0_mixed ⟨by decide, by decide⟩ mok_X0_mixed ⟨by decide, by decide⟩ ⟨q2464, ln_453, Or.inl ⟨q2463, Or.inl q2465⟩⟩) (trivial)) (Or.inl (by decide))) (ihN rfl) rfl ?_
  refine bplain (pc' := 1268) rfl dL_law_1267 rfl (ihN rfl) rfl ?_
  refine bplain (pc' := 1269) rfl dL_law_1268 rfl (ihN rfl) rfl ?_
  refine bplain (pc' := 1270) rfl dL_law_1269 rfl (ihN rfl) rfl ?_
  refine bplain (pc' := 1271) rfl dL_law_1270 rfl (ihN rfl) rfl ?_
  refine bplain (pc' := 1272) rfl dL_law_1271 rfl (ihN rfl) rfl ?_
  refine bplain (pc' := 1273) rfl dL_law_1272 rfl (ihN rfl) rfl ?_
  refine bplain (pc' := 1274) rfl dL_law_1273 rfl (ihN rfl) rfl ?_
  refine bplain (pc' := 1275) rfl dL_law_1274 rfl (ihN rfl) rfl ?_
  refine bplain (pc' := 1276) rfl dL_law_1275 rfl (ihN rfl) rfl ?_
  refine bplain (pc' := 1277) rfl dL_law_1276 rfl (ihN rfl) rfl ?_
  refine bplain (pc' := 1278) rfl dL_law_1277 rfl (ihN rfl) rfl ?_
  refine bplain (pc' := 1279) rfl dL_law_1278 rfl (ihN rfl) rfl ?_
  refine bplain (pc' := 1280) rfl dL_law_1279 rfl (ihN rfl) rfl ?_
  refine bplain (pc' := 1281) rfl dL_law_1280 rfl (ihN rfl) rfl ?_
  refine bplain (pc' := 1282) rfl dL_law_1281 rfl (ihN rfl) rfl ?_
  refine bplain (pc' := 1283) rfl dL_law_1282 rfl (ihN rfl) rfl ?_
  refine bplain (pc' := 1284) rfl dL_law_1283 rfl (ihN rfl) rfl ?_
  refine bplain (pc' := 1285) rfl dL_law_1284 rfl (ihN rfl) rfl ?_
  refine bplain (pc' := 1286) rfl dL_law_1285 rfl (ihN rfl) rfl ?_
  refine bplain (pc' := 1287) rfl dL_law_1286 rfl (ihN rfl) rfl ?_
  refine bplain (pc' := 1288) rfl dL_law_1287 rfl (ihN rfl) rfl ?_
  refine bcall (pc' := 1291) rfl dL_law_1288 rfl (trivial) (lcv (n := 4) rfl (pvc (lfv mt_X3_mixed ⟨by decide, by decide⟩ mok_X3_mixed ⟨by decide, by decide⟩ ⟨q3127, ln_453, Or.inl ⟨q3126, Or.inl q3128⟩⟩) (trivial)) (Or.inl (by decide))) (ihN rfl) rfl ?_
  refine bjmp (tg := 1465) (pc' := 1294) rfl (by decide) (by decide) rfl dL_law_1291 rfl (ihN rfl) rfl ?_
  refine bplain (pc' := 1295) rfl dL_law_1294 rfl (ihN rfl) rfl ?_
  refine bret (pc' := 1296) rfl dL_law_1295 rfl (Or.inr ⟨rfl, rfl⟩) (ihN rfl) rfl ?_
  exact trivial
theorem bf_L_law_1296 : BOKt mt tL_law 413 1296 b_L_law_1296 := by
  refine bplain (pc' := 1297) rfl dL_law_1296 rfl (ihN rfl) rfl ?_
  refine bplain (pc' := 1298) rfl dL_law_1297 rfl (ihN rfl) rfl ?_
  refine bplain (pc' := 1299) rfl dL_law_1298 rfl (ihN rfl) rfl ?_
  refine bplain (pc' := 1300) rfl dL_law_1299 rfl (ihN rfl) rfl ?_
  refine bplain (pc' := 1301) rfl dL_law_1300 rfl (ihN rfl) rfl ?_
  refine bplain (pc' := 1302) rfl dL_law_1301 rfl (ihN rfl) rfl ?_
  refine bplain (pc' := 1303) rfl dL_law_1302 rfl (ihN rfl) rfl ?_
  refine bplain (pc' := 1304) rfl dL_law_1303 rfl (ihN rfl) rfl ?_
  refine bplain (pc' := 1305) rfl dL_law_1304 rfl (ihN rfl) rfl ?_
  refine bplain (pc' := 1306) rfl dL_law_1305 rfl (ihN rfl) rfl ?_
  refine bplain (pc' := 1307) rfl dL_law_1306 rfl (ihN rfl) rfl ?_
  refine bplain (pc' := 1308) rfl dL_law_1307 rfl (ihN rfl) rfl ?_
  refine bplain (pc' := 1309) rfl dL_law_1308 rfl (ihN rfl) rfl ?_
  refine bplain (pc' := 1310) rfl dL_law_1309 rfl (ihN rfl) rfl ?_
  refine bplain (pc' := 1311) rfl dL_law_1310 rfl (ihN rfl) rfl ?_
  refine bplain (pc' := 1312) rfl dL_law_1311 rfl (ihN rfl) rfl ?_
  refine bplain (pc' := 1313) rfl dL_law_1312 rfl (ihN rfl) rfl ?_
  refine bplain (pc' := 1314) rfl dL_law_1313 rfl (ihN rfl) rfl ?_
  refine bplain (pc' := 1315) rfl dL_law_1314 rfl (ihN rfl) rfl ?_
  refine bplain (pc' := 1316) rfl dL_law_1315 rfl (ihN rfl) rfl ?_
  refine bplain (pc' := 1317) rfl dL_law_1316 rfl (ihN rfl) rfl ?_
  refine bcall (pc' := 1320) rfl dL_law_1317 rfl (trivial) (lcv (n := 4) rfl (pvc (lfv mt_X0_same ⟨by decide, by decide⟩ mok_X0_same ⟨by decide, by decide⟩ ⟨q2520, ln_453, Or.inl ⟨q2519, Or.inl q2521⟩⟩) (trivial)) (Or.inl (by decide))) (ihN rfl) rfl ?_
  refine bplain (pc' := 1321) rfl dL_law_1320 rfl (ihN rfl) rfl ?_
  refine bplain (pc' := 1322) rfl dL_law_1321 rfl (ihN rfl) rfl ?_
  refine bplain (pc' := 1323) rfl dL_law_1322 rfl (ihN rfl) rfl ?_
  refine bplain (pc' := 1324) rfl dL_law_1323 rfl (ihN rfl) rfl ?_
  refine bplain (pc' := 1325) rfl dL_law_1324 rfl (ihN rfl) rfl ?_
  refine bplain (pc' := 1326) rfl dL_law_1325 rfl (ihN rfl) rfl ?_
  refine bplain (pc' := 1327) rfl dL_law_1326 rfl (ihN rfl) rfl ?_
  refine bplain (pc' := 1328) rfl dL_law_1327 rfl (ihN rfl) rfl ?_
  refine bplain (pc' := 1329) rfl dL_law_1328 rfl (ihN rfl) rfl ?_
  refine bplain (pc' := 1330) rfl dL_law_1329 rfl (ihN rfl) rfl ?_
  refine bplain (pc' := 1331) rfl dL_law_1330 rfl (ihN rfl) rfl ?_
  refine bplain (pc' := 1332) rfl dL_law_1331 rfl (ihN rfl) rfl ?_
  refine bplain (pc' := 1333) rfl dL_law_1332 rfl (ihN rfl) rfl ?_
  refine bplain (pc' := 1334) rfl dL_law_1333 rfl (ihN rfl) rfl ?_
  refine bplain (pc' := 1335) rfl dL_law_1334 rfl (ihN rfl) rfl ?_
  refine bplain (pc' := 1336) rfl dL_law_1335 rfl (ihN rfl) rfl ?_
  refine bplain (pc' := 1337) rfl dL_law_1336 rfl (ihN rfl) rfl ?_
  refine bplain (pc' := 1338) rfl dL_law_1337 rfl (ihN rfl) rfl ?_
  refine bplain (pc' := 1339) rfl dL_law_1338 rfl (ihN rfl) rfl ?_
  refine bplain (pc' := 1340) rfl dL_law_1339 rfl (ihN rfl) rfl ?_
  refine bplain (pc' := 1341) rfl dL_law_1340 rfl (ihN rfl) rfl ?_
  refine bcall (pc' := 1344) rfl dL_law_1341 rfl (trivial) (lcv (n := 4) rfl (pvc (lfv mt_X3_same ⟨by decide, by decide⟩ mok_X3_same ⟨by decide, by decide⟩ ⟨q3155, ln_453, Or.inl ⟨q3154, Or.inl q3156⟩⟩) (trivial)) (Or.inl (by decide))) (ihN rfl) rfl ?_
  refine bjmp (tg := 1465) (pc' := 1347) rfl (by decide) (by decide) rfl dL_law_1344 rfl (ihN rfl) rfl ?_
  refine bplain (pc' := 1348) rfl dL_law_1347 rfl (ihN rfl) rfl ?_
  refine bret (pc' := 1349) rfl dL_law_1348 rfl (Or.inr ⟨rfl, rfl⟩) (ihN rfl) rfl ?_
  exact trivial
theorem bf_L_law_1349 : BOKt mt tL_law 413 1349 b_L_law_1349 := by
  refine bplain (pc' := 1350) rfl dL_law_1349 rfl (ihN rfl) rfl ?_
  refine bplain (pc' := 1351) rfl dL_law_1350 rfl (ihN rfl) rfl ?_
  refine bplain (pc' := 1352) rfl dL_law_1351 rfl (ihN rfl) rfl ?_
  refine bplain (pc' := 1353) rfl dL_law_1352 rfl (ihN rfl) rfl ?_
  refine bplain (pc' := 1354) rfl dL_law_1353 rfl (ihN rfl) rfl ?_
  refine bplain (pc' := 1355) rfl dL_law_1354 rfl (ihN rfl) rfl ?_
  refine bcall (pc' := 1358) rfl dL_law_1355 rfl (trivial) (lcv (n := 1) rfl (pvc (lfv mt_X0_faults ⟨by decide, by decide⟩ mok_X0_faults ⟨by decide, by decide⟩ ⟨q2544, ln_225, Or.inl ⟨q2543, Or.inl q2545⟩⟩) (trivial)) (Or.inl (by decide))) (ihN rfl) rfl ?_
  refine bplain (pc' := 1359) rfl dL_law_1358 rfl (ihN rfl) rfl ?_
  refine bplain (pc' := 1360) rfl dL_law_1359 rfl (ihN rfl) rfl ?_
  refine bplain (pc' := 1361) rfl dL_law_1360 rfl (ihN rfl) rfl ?_
  refine bplain (pc' := 1362) rfl dL_law_1361 rfl (ihN rfl) rfl ?_
  refine bplain (pc' := 1363) rfl dL_law_1362 rfl (ihN rfl) rfl ?_
  refine bplain (pc' := 1364) rfl dL_law_1363 rfl (ihN rfl) rfl ?_
  refine bcall (pc' := 1367) rfl dL_law_1364 rfl (trivial) (lcv (n := 1) rfl (pvc (lfv mt_X3_faults ⟨by decide, by decide⟩ mok_X3_faults ⟨by decide, by decide⟩ ⟨q3163, ln_225, Or.inl ⟨q3162, Or.inl q3164⟩⟩) (trivial)) (Or.inl (by decide))) (ihN rfl) rfl ?_
  refine bjmp (tg := 1465) (pc' := 1370) rfl (by decide) (by decide) rfl dL_law_1367 rfl (ihN rfl) rfl ?_
  refine bplain (pc' := 1371) rfl dL_law_1370 rfl (ihN rfl) rfl ?_
  refine bret (pc' := 1372) rfl dL_law_1371 rfl (Or.inr ⟨rfl, rfl⟩) (ihN rfl) rfl ?_
  exact trivial
theorem bf_L_law_1372 : BOKt mt tL_law 413 1372 b_L_law_1372 := by
  refine bplain (pc' := 1373) rfl dL_law_1372 rfl (ihN rfl) rfl ?_
  refine bplain (pc' := 1374) rfl dL_law_1373 rfl (ihN rfl) rfl ?_
  refine bplain (pc' := 1375) rfl dL_law_1374 rfl (ihN rfl) rfl ?_
  refine bplain (pc' := 1376) rfl dL_law_1375 rfl (ihN rfl) rfl ?_
  refine bplain (pc' := 1377) rfl dL_law_1376 rfl (ihN rfl) rfl ?_
  refine bplain (pc' := 1378) rfl dL_law_1377 rfl (ihN rfl) rfl ?_
  refine bcall (pc' := 1381) rfl dL_law_1378 rfl (trivial) (lcv (n := 1) rfl (pvc (lfv mt_X0_ended ⟨by decide, by decide⟩ mok_X0_ended ⟨by decide, by decide⟩ ⟨q2548, ln_225, Or.inl ⟨q2547, Or.inl q2549⟩⟩) (trivial)) (Or.inl (by decide))) (ihN rfl) rfl ?_
  refine bplain (pc' := 1382) rfl dL_law_1381 rfl (ihN rfl) rfl ?_
  refine bplain (pc' := 1383) rfl dL_law_1382 rfl (ihN rfl) rfl ?_
  refine bplain (pc' := 1384) rfl dL_law_1383 rfl (ihN rfl) rfl ?_
  refine bplain (pc' := 1385) rfl dL_law_1384 rfl (ihN rfl) rfl ?_
  refine bplain (pc' := 1386) rfl dL_law_1385 rfl (ihN rfl) rfl ?_
  refine bplain (pc' := 1387) rfl dL_law_1386 rfl (ihN rfl) rfl ?_
  refine bcall (pc' := 1390) rfl dL_law_1387 rfl (trivial) (lcv (n := 1) rfl (pvc (lfv mt_X3_ended ⟨by decide, by decide⟩ mok_X3_ended ⟨by decide, by decide⟩ ⟨q3167, ln_225, Or.inl ⟨q3166, Or.inl q3168⟩⟩) (trivial)) (Or.inl (by decide))) (ihN rfl) rfl ?_
  refine bjmp (tg := 1465) (pc' := 1393) rfl (by decide) (by decide) rfl dL_law_1390 rfl (ihN rfl) rfl ?_
  refine bplain (pc' := 1394) rfl dL_law_1393 rfl (ihN rfl) rfl ?_
  refine bret (pc' := 1395) rfl dL_law_1394 rfl (Or.inr ⟨rfl, rfl⟩) (ihN rfl) rfl ?_
  exact trivial
theorem bf_L_law_1395 : BOKt mt tL_law 413 1395 b_L_law_1395 := by
  refine bplain (pc' := 1396) rfl dL_law_1395 rfl (ihN rfl) rfl ?_
  refine bplain (pc' := 1397) rfl dL_law_1396 rfl (ihN rfl) rfl ?_
  refine bplain (pc' := 1398) rfl dL_law_1397 rfl (ihN rfl) rfl ?_
  refine bplain (pc' := 1399) rfl dL_law_1398 rfl (ihN rfl) rfl ?_
  refine bplain (pc' := 1400) rfl dL_law_1399 rfl (ihN rfl) rfl ?_
  refine bplain (pc' := 1401) rfl dL_law_1400 rfl (ihN rfl) rfl ?_
  refine bplain (pc' := 1402) rfl dL_law_1401 rfl (ihN rfl) rfl ?_
  refine bplain (pc' := 1403) rfl dL_law_1402 rfl (ihN rfl) rfl ?_
  refine bplain (pc' := 1404) rfl dL_law_1403 rfl (ihN rfl) rfl ?_
  refine bplain (pc' := 1405) rfl dL_law_1404 rfl (ihN rfl) rfl ?_
  refine bplain (pc' := 1406) rfl dL_law_1405 rfl (ihN rfl) rfl ?_
  refine bcall (pc' := 1409) rfl dL_law_1406 rfl (trivial) (lcv (n := 2) rfl (pvc (lfv mt_X0_writer ⟨by decide, by decide⟩ mok_X0_writer ⟨by decide, by decide⟩ ⟨q2557, ln_252, Or.inl ⟨q2556, Or.inl q2558⟩⟩) (trivial)) (Or.inl (by decide))) (ihN rfl) rfl ?_
  refine bplain (pc' := 1410) rfl dL_law_1409 rfl (ihN rfl) rfl ?_
  refine bplain (pc' := 1411) rfl dL_law_1410 rfl (ihN rfl) rfl ?_
  refine bplain (pc' := 1412) rfl dL_law_1411 rfl (ihN rfl) rfl ?_
  refine bplain (pc' := 1413) rfl dL_law_1412 rfl (ihN rfl) rfl ?_
  refine bplain (pc' := 1414) rfl dL_law_1413 rfl (ihN rfl) rfl ?_
  refine bplain (pc' := 1415) rfl dL_law_1414 rfl (ihN rfl) rfl ?_
  refine bplain (pc' := 1416) rfl dL_law_1415 rfl (ihN rfl) rfl ?_
  refine bplain (pc' := 1417) rfl dL_law_1416 rfl (ihN rfl) rfl ?_
  refine bplain (pc' := 1418) rfl dL_law_1417 rfl (ihN rfl) rfl ?_
  refine bplain (pc' := 1419) rfl dL_law_1418 rfl (ihN rfl) rfl ?_
  refine bplain (pc' := 1420) rfl dL_law_1419 rfl (ihN rfl) rfl ?_
  refine bcall (pc' := 1423) rfl dL_law_1420 rfl (trivial) (lcv (n := 2) rfl (pvc (lfv mt_X3_writer ⟨by decide, by decide⟩ mok_X3_writer ⟨by decide, by decide⟩ ⟨q3171, ln_252, Or.inl ⟨q3170, Or.inl q3172⟩⟩) (trivial)) (Or.inl (by decide))) (ihN rfl) rfl ?_
  refine bjmp (tg := 1465) (pc' := 1426) rfl (by decide) (by decide) rfl dL_law_1423 rfl (ihN rfl) rfl ?_
  refine bplain (pc' := 1427) rfl dL_law_1426 rfl (ihN rfl) rfl ?_
  refine bret (pc' := 1428) rfl dL_law_1427 rfl (Or.inr ⟨rfl, rfl⟩) (ihN rfl) rfl ?_
  exact trivial
theorem bf_L_law_1428 : BOKt mt tL_law 413 1428 b_L_law_1428 := by
  refine bplain (pc' := 1429) rfl dL_law_1428 rfl (ihN rfl) rfl ?_
  refine bplain (pc' := 1430) rfl dL_law_1429 rfl (ihN rfl) rfl ?_
  refine bplain (pc' := 1431) rfl dL_law_1430 rfl (ihN rfl) rfl ?_
  refine bplain (pc' := 1432) rfl dL_law_1431 rfl (ihN rfl) rfl ?_
  refine bplain (pc' := 1433) rfl dL_law_1432 rfl (ihN rfl) rfl ?_
  refine bplain (pc' := 1434) rfl dL_law_1433 rfl (ihN rfl) rfl ?_
  refine bcall (pc' := 1437) rfl dL_law_1434 rfl (trivial) (lcv (n := 1) rfl (pvc (lfv mt_X0_count ⟨by decide, by decide⟩ mok_X0_count ⟨by decide, by decide⟩ ⟨q2561, ln_225, Or.inl ⟨q2560, Or.inl q2562⟩⟩) (trivial)) (Or.inl (by decide))) (ihN rfl) rfl ?_
  refine bplain (pc' := 1438) rfl dL_law_1437 rfl (ihN rfl) rfl ?_
  refine bplain (pc' := 1439) rfl dL_law_1438 rfl (ihN rfl) rfl ?_
  refine bplain (pc' := 1440) rfl dL_law_1439 rfl (ihN rfl) rfl ?_
  refine bplain (pc' := 1441) rfl dL_law_1440 rfl (ihN rfl) rfl ?_
  refine bplain (pc' := 1442) rfl dL_law_1441 rfl (ihN rfl) rfl ?_
  refine bplain (pc' := 1443) rfl dL_law_1442 rfl (ihN rfl) rfl ?_
  refine bcall (pc' := 1446) rfl dL_law_1443 rfl (trivial) (lcv (n := 1) rfl (pvc (lfv mt_X3_count ⟨by decide, by decide⟩ mok_X3_count ⟨by decide, by decide⟩ ⟨q3175, ln_225, Or.inl ⟨q3174, Or.inl q3176⟩⟩) (trivial)) (Or.inl (by decide))) (ihN rfl) rfl ?_
  refine bjmp (tg := 1465) (pc' := 1449) rfl (by decide) (by decide) rfl dL_law_1446 rfl (ihN rfl) rfl ?_
  refine bplain (pc' := 1450) rfl dL_law_1449 rfl (ihN rfl) rfl ?_
  refine bret (pc' := 1451) rfl dL_law_1450 rfl (Or.inr ⟨rfl, rfl⟩) (ihN rfl) rfl ?_
  exact trivial
theorem bf_L_law_1451 : BOKt mt tL_law 413 1451 b_L_law_1451 := by
  refine bplain (pc' := 1452) rfl dL_law_1451 rfl (ihN rfl) rfl ?_
  refine bcall (pc' := 1455) rfl dL_law_1452 rfl (trivial) (lcv (n := 0) rfl (pvc (lfv mt_X0_digest ⟨by decide, by decide⟩ mok_X0_digest ⟨by decide, by decide⟩ ⟨q2573, ln_577, Or.inl ⟨q2572, Or.inl q2574⟩⟩) (trivial)) (Or.inl (by decide))) (ihN rfl) rfl ?_
  refine bplain (pc' := 1456) rfl dL_law_1455 rfl (ihN rfl) rfl ?_
  refine bcall (pc' := 1459) rfl dL_law_1456 rfl (trivial) (lcv (n := 0) rfl (pvc (lfv mt_X3_digest ⟨by decide, by decide⟩ mok_X3_digest ⟨by decide, by decide⟩ ⟨q3183, ln_577, Or.inl ⟨q3182, Or.inl q3184⟩⟩) (trivial)) (Or.inl (by decide))) (ihN rfl) rfl ?_
  refine bplain (pc' := 1460) rfl dL_law_1459 rfl (ihN rfl) rfl ?_
  refine bjmp (tg := 1465) (pc' := 1463) rfl (by decide) (by decide) rfl dL_law_1460 rfl (ihN rfl) rfl ?_
  refine bplain (pc' := 1464) rfl dL_law_1463 rfl (ihN rfl) rfl ?_
  refine bret (pc' := 1465) rfl dL_law_1464 rfl (Or.inr ⟨rfl, rfl⟩) (ihN rfl) rfl ?_
  exact trivial
theorem bf_L_law_1465 : BOKt mt tL_law 413 1465 b_L_law_1465 := by
  refine bplain (pc' := 1468) rfl dL_law_1465 rfl (ihN rfl) rfl ?_
  refine bjmp (tg := 18) (pc' := 1471) rfl (by decide) (by decide) rfl dL_law_1468 rfl (ihN rfl) rfl ?_
  exact trivial
theorem bf_L_law_1471 : BOKt mt tL_law 413 1471 b_L_law_1471 := by
  refine bplain (pc' := 1472) rfl dL_law_1471 rfl (ihN rfl) rfl ?_
  refine bret (pc' := 1473) rfl dL_law_1472 rfl (Or.inr ⟨rfl, rfl⟩) (ihN rfl) rfl ?_
  exact trivial
theorem tf_L_law : ∀ x ∈ tb_L_law, BOK mt 413 x.1 x.2 := tb_c mt_L_law bf_L_law_0 (tb_c mt_L_law bf_L_law_18 (tb_c mt_L_law bf_L_law_188 (tb_c mt_L_law bf_L_law_231 (tb_c mt_L_law bf_L_law_254 (tb_c mt_L_law bf_L_law_307 (tb_c mt_L_law bf_L_law_341 (tb_c mt_L_law bf_L_law_404 (tb_c mt_L_law bf_L_law_427 (tb_c mt_L_law bf_L_law_450 (tb_c mt_L_law bf_L_law_463 (tb_c mt_L_law bf_L_law_486 (tb_c mt_L_law bf_L_law_529 (tb_c mt_L_law bf_L_law_592 (tb_c mt_L_law bf_L_law_635 (tb_c mt_L_law bf_L_law_668 (tb_c mt_L_law bf_L_law_681 (tb_c mt_L_law bf_L_law_714 (tb_c mt_L_law bf_L_law_757 (tb_c mt_L_law bf_L_law_800 (tb_c mt_L_law bf_L_law_863 (tb_c mt_L_law bf_L_law_896 (tb_c mt_L_law bf_L_law_949 (tb_c mt_L_law bf_L_law_992 (tb_c mt_L_law bf_L_law_1035 (tb_c mt_L_law bf_L_law_1098 (tb_c mt_L_law bf_L_law_1121 (tb_c mt_L_law bf_L_law_1154 (tb_c mt_L_law bf_L_law_1187 (tb_c mt_L_law bf_L_law_1230 (tb_c mt_L_law bf_L_law_1243 (tb_c mt_L_law bf_L_law_1296 (tb_c mt_L_law bf_L_law_1349 (tb_c mt_L_law bf_L_law_1372 (tb_c mt_L_law bf_L_law_1395 (tb_c mt_L_law bf_L_law_1428 (tb_c mt_L_law bf_L_law_1451 (tb_c mt_L_law bf_L_law_1465 (tb_c mt_L_law bf_L_law_1471 (tb_n)))))))))))))))))))))))))))))))))))))))
