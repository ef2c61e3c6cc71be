/-! BLOCKS' FACTS 3 (by gen/bok.py) -/
set_option maxRecDepth 100000
theorem bf_X0_kindsOf_0 : BOKt mt tX0_kindsOf 211 0 b_X0_kindsOf_0 := by
  refine bthr (pc' := 3) rfl dX0_kindsOf_0 rfl (⟨⟨by decide, by decide, by decide⟩, rfl, q1983, q466, q180⟩) (trivial) (ihN rfl) rfl ?_
  refine bplain (pc' := 4) rfl dX0_kindsOf_3 rfl (ihN rfl) rfl ?_
  refine bcall (pc' := 7) rfl dX0_kindsOf_4 rfl (trivial) (lci mt_J34_init ⟨by decide, by decide⟩ mok_J34_init rfl rfl rfl ln_0 q1985 rfl (Or.inl q1984)) (ihN rfl) rfl ?_
  refine bplain (pc' := 8) rfl dX0_kindsOf_7 rfl (ihN rfl) rfl ?_
  refine bplain (pc' := 9) rfl dX0_kindsOf_8 rfl (ihN rfl) rfl ?_
  refine bthr (pc' := 12) rfl dX0_kindsOf_9 rfl (lkf0 q1115 lf_116) (trivial) (ihN rfl) rfl ?_
  refine bplain (pc' := 13) rfl dX0_kindsOf_12 rfl (ihN rfl) rfl ?_
  refine bcall (pc' := 16) rfl dX0_kindsOf_13 rfl (trivial) (lcv (n := 1) rfl (pvc (lfv mt_J20_get ⟨by decide, by decide⟩ mok_J20_get ⟨by decide, by decide⟩ ⟨q1777, ln_338, Or.inl ⟨q1776, Or.inl q1778⟩⟩) (trivial)) (Or.inl (by decide))) (ihN rfl) rfl ?_
  refine bthr (pc' := 19) rfl dX0_kindsOf_16 rfl (lkc (nm := "StrideTurns$Statement") q1651 lg_340 lb_341) (Or.inl rfl) (ihN rfl) rfl ?_
  refine bplain (pc' := 21) rfl dX0_kindsOf_19 rfl (ihN rfl) rfl ?_
  refine bplain (pc' := 22) rfl dX0_kindsOf_21 rfl (ihN rfl) rfl ?_
  refine bplain (pc' := 24) rfl dX0_kindsOf_22 rfl (ihN rfl) rfl ?_
  exact bnop0 rfl (by decide)
theorem bf_X0_kindsOf_24 : BOKt mt tX0_kindsOf 211 24 b_X0_kindsOf_24 := by
  refine bnop1 ?_
  refine bplain (pc' := 26) rfl dX0_kindsOf_24 rfl (ihN rfl) rfl ?_
  refine bplain (pc' := 27) rfl dX0_kindsOf_26 rfl (ihN rfl) rfl ?_
  refine bthr (pc' := 30) rfl dX0_kindsOf_27 rfl (lkf0 q1118 lf_270) (trivial) (ihN rfl) rfl ?_
  refine bjmp (tg := 173) (pc' := 33) rfl (by decide) (by decide) rfl dX0_kindsOf_30 rfl (ihN rfl) rfl ?_
  refine bplain (pc' := 35) rfl dX0_kindsOf_33 rfl (ihN rfl) rfl ?_
  refine bplain (pc' := 37) rfl dX0_kindsOf_35 rfl (ihN rfl) rfl ?_
  refine bcall (pc' := 40) rfl dX0_kindsOf_37 rfl (trivial) (lcv (n := 1) rfl (pvc (lfv mt_X6_isDone ⟨by decide, by decide⟩ mok_X6_isDone ⟨by decide, by decide⟩ ⟨q1877, ln_222, Or.inl ⟨q2011, Or.inl q1878⟩⟩) (trivial)) (Or.inl (by decide))) (ihN rfl) rfl ?_
  refine bjmp (tg := 46) (pc' := 43) rfl (by decide) (by decide) rfl dX0_kindsOf_40 rfl (ihN rfl) rfl ?_
  refine bjmp (tg := 167) (pc' := 46) rfl (by decide) (by decide) rfl dX0_kindsOf_43 rfl (ihN rfl) rfl ?_
  exact trivial
theorem bf_X0_kindsOf_46 : BOKt mt tX0_kindsOf 211 46 b_X0_kindsOf_46 := by
  refine bobj (pc' := 49) rfl dX0_kindsOf_46 rfl (lkg2 (j := 2) (by decide) q2012 rfl) (ihN rfl) rfl ?_
  refine bplain (pc' := 51) rfl dX0_kindsOf_49 rfl (ihN rfl) rfl ?_
  refine bplain (pc' := 53) rfl dX0_kindsOf_51 rfl (ihN rfl) rfl ?_
  refine bplain (pc' := 54) rfl dX0_kindsOf_53 rfl (ihN rfl) rfl ?_
  refine bplain (pc' := 56) rfl dX0_kindsOf_54 rfl (ihN rfl) rfl ?_
  refine bplain (pc' := 57) rfl dX0_kindsOf_56 rfl (ihN rfl) rfl ?_
  refine bplain (pc' := 59) rfl dX0_kindsOf_57 rfl (ihN rfl) rfl ?_
  exact bnop0 rfl (by decide)
theorem bf_X0_kindsOf_59 : BOKt mt tX0_kindsOf 211 59 b_X0_kindsOf_59 := by
  refine bnop1 ?_
  refine bplain (pc' := 61) rfl dX0_kindsOf_59 rfl (ihN rfl) rfl ?_
  refine bplain (pc' := 63) rfl dX0_kindsOf_61 rfl (ihN rfl) rfl ?_
  refine bjmp (tg := 167) (pc' := 66) rfl (by decide) (by decide) rfl dX0_kindsOf_63 rfl (ihN rfl) rfl ?_
  refine bplain (pc' := 68) rfl dX0_kindsOf_66 rfl (ihN rfl) rfl ?_
  refine bplain (pc' := 70) rfl dX0_kindsOf_68 rfl (ihN rfl) rfl ?_
  refine bplain (pc' := 71) rfl dX0_kindsOf_70 rfl (ihN rfl) rfl ?_
  refine bplain (pc' := 73) rfl dX0_kindsOf_71 rfl (ihN rfl) rfl ?_
  refine bplain (pc' := 75) rfl dX0_kindsOf_73 rfl (ihN rfl) rfl ?_
  refine bplain (pc' := 77) rfl dX0_kindsOf_75 rfl (ihN rfl) rfl ?_
  refine bcall (pc' := 80) rfl dX0_kindsOf_77 rfl (trivial) (lcv (n := 1) rfl (pvc (lfv mt_X6_looks ⟨by decide, by decide⟩ mok_X6_looks ⟨by decide, by decide⟩ ⟨q2015, ln_222, Or.inl ⟨q2014, Or.inl q2016⟩⟩) (trivial)) (Or.inl (by decide))) (ihN rfl) rfl ?_
  refine bjmp (tg := 161) (pc' := 83) rfl (by decide) (by decide) rfl dX0_kindsOf_80 rfl (ihN rfl) rfl ?_
  refine bplain (pc' := 85) rfl dX0_kindsOf_83 rfl (ihN rfl) rfl ?_
  refine bplain (pc' := 87) rfl dX0_kindsOf_85 rfl (ihN rfl) rfl ?_
  refine bcall (pc' := 90) rfl dX0_kindsOf_87 rfl (trivial) (lcv (n := 1) rfl (pvc (lfv mt_X6_at ⟨by decide, by decide⟩ mok_X6_at ⟨by decide, by decide⟩ ⟨q1785, ln_342, Or.inl ⟨q1784, Or.inl q1786⟩⟩) (trivial)) (Or.inl (by decide))) (ihN rfl) rfl ?_
  refine bthr (pc' := 93) rfl dX0_kindsOf_90 rfl (lkf1 (host := "StrideTurns") (by decide) q1669 lf_310) (trivial) (ihN rfl) rfl ?_
  refine bplain (pc' := 94) rfl dX0_kindsOf_93 rfl (ihN rfl) rfl ?_
  refine bjmp (tg := 100) (pc' := 97) rfl (by decide) (by decide) rfl dX0_kindsOf_94 rfl (ihN rfl) rfl ?_
  refine bjmp (tg := 161) (pc' := 100) rfl (by decide) (by decide) rfl dX0_kindsOf_97 rfl (ihN rfl) rfl ?_
  exact trivial
theorem bf_X0_kindsOf_100 : BOKt mt tX0_kindsOf 211 100 b_X0_kindsOf_100 := by
  refine bplain (pc' := 101) rfl dX0_kindsOf_100 rfl (ihN rfl) rfl ?_
  refine bplain (pc' := 102) rfl dX0_kindsOf_101 rfl (ihN rfl) rfl ?_
  refine bplain (pc' := 103) rfl dX0_kindsOf_102 rfl (ihN rfl) rfl ?_
  refine bplain (pc' := 104) rfl dX0_kindsOf_103 rfl (ihN rfl) rfl ?_
  refine bplain (pc' := 106) rfl dX0_kindsOf_104 rfl (ihN rfl) rfl ?_
  refine bplain (pc' := 107) rfl dX0_kindsOf_106 rfl (ihN rfl) rfl ?_
  refine bplain (pc' := 109) rfl dX0_kindsOf_107 rfl (ihN rfl) rfl ?_
  refine bcall (pc' := 112) rfl dX0_kindsOf_109 rfl (trivial) (lcv (n := 2) rfl (pvc (lfv mt_X0_sectionAt ⟨by decide, by decide⟩ mok_X0_sectionAt ⟨by decide, by decide⟩ ⟨q1921, ln_391, Or.inl ⟨q1919, Or.inl qs21⟩⟩) (trivial)) (Or.inl (by decide))) (ihN rfl) rfl ?_
  refine bplain (pc' := 114) rfl dX0_kindsOf_112 rfl (ihN rfl) rfl ?_
  refine bplain (pc' := 115) rfl dX0_kindsOf_114 rfl (ihN rfl) rfl ?_
  refine bplain (pc' := 117) rfl dX0_kindsOf_115 rfl (ihN rfl) rfl ?_
  refine bcall (pc' := 120) rfl dX0_kindsOf_117 rfl (trivial) (lcv (n := 1) rfl (pvc (lfv mt_J34_get ⟨by decide, by decide⟩ mok_J34_get ⟨by decide, by decide⟩ ⟨q1631, ln_304, Or.inl ⟨q2018, Or.inl q3212⟩⟩) (trivial)) (Or.inl (by decide))) (ihN rfl) rfl ?_
  refine bthr (pc' := 123) rfl dX0_kindsOf_120 rfl (lkc (nm := "StrideTurns$Tally") q2019 lg_397 lb_398) (Or.inl rfl) (ihN rfl) rfl ?_
  refine bplain (pc' := 125) rfl dX0_kindsOf_123 rfl (ihN rfl) rfl ?_
  refine bplain (pc' := 127) rfl dX0_kindsOf_125 rfl (ihN rfl) rfl ?_
  refine bjmp (tg := 150) (pc' := 130) rfl (by decide) (by decide) rfl dX0_kindsOf_127 rfl (ihN rfl) rfl ?_
  refine bthr (pc' := 133) rfl dX0_kindsOf_130 rfl (⟨⟨by decide, by decide, by decide⟩, rfl, q2019, q2020, q181⟩) (trivial) (ihN rfl) rfl ?_
  refine bplain (pc' := 134) rfl dX0_kindsOf_133 rfl (ihN rfl) rfl ?_
  refine bplain (pc' := 136) rfl dX0_kindsOf_134 rfl (ihN rfl) rfl ?_
  refine bcall (pc' := 139) rfl dX0_kindsOf_136 rfl (trivial) (lci mt_X9_init ⟨by decide, by decide⟩ mok_X9_init rfl rfl rfl ln_399 q2022 rfl (Or.inl q2021)) (ihN rfl) rfl ?_
  refine bplain (pc' := 141) rfl dX0_kindsOf_139 rfl (ihN rfl) rfl ?_
  refine bplain (pc' := 142) rfl dX0_kindsOf_141 rfl (ihN rfl) rfl ?_
  refine bplain (pc' := 144) rfl dX0_kindsOf_142 rfl (ihN rfl) rfl ?_
  refine bplain (pc' := 146) rfl dX0_kindsOf_144 rfl (ihN rfl) rfl ?_
  refine bcall (pc' := 149) rfl dX0_kindsOf_146 rfl (trivial) (lcv (n := 2) rfl (pvc (lfv mt_J1_put ⟨by decide, by decide⟩ mok_J1_put ⟨by decide, by decide⟩ ⟨q279, ln_95, Or.inr (Or.inr ⟨rfl, ⟨"java/util/LinkedHashMap", "put", "(Ljava/lang/Object;Ljava/lang/Object;)Ljava/lang/Object;"⟩, "java/util/HashMap", q2033, q2034, lv_84, ln_95, q2036, Or.inl ⟨_, _, _, q279, q283⟩⟩)⟩) (trivial)) (Or.inl (by decide))) (ihN rfl) rfl ?_
  refine bplain (pc' := 150) rfl dX0_kindsOf_149 rfl (ihN rfl) rfl ?_
  exact bnop0 rfl (by decide)
theorem bf_X0_kindsOf_150 : BOKt mt tX0_kindsOf 211 150 b_X0_kindsOf_150 := by
  refine bnop1 ?_
  refine bplain (pc' := 152) rfl dX0_kindsOf_150 rfl (ihN rfl) rfl ?_
  refine bplain (pc' := 153) rfl dX0_kindsOf_152 rfl (ihN rfl) rfl ?_
  refine bthr (pc' := 156) rfl dX0_kindsOf_153 rfl (lkf1 (host := "StrideTurns") (by decide) q2027 lf_400) (trivial) (ihN rfl) rfl ?_
  refine bplain (pc' := 157) rfl dX0_kindsOf_156 rfl (ihN rfl) rfl ?_
  refine bplain (pc' := 158) rfl dX0_kindsOf_157 rfl (ihN rfl) rfl ?_
  refine bobj (pc' := 161) rfl dX0_kindsOf_158 rfl (⟨lkf1 (host := "StrideTurns") (by decide) q2027 lf_400, lkp0 lp_401⟩) (ihN rfl) rfl ?_
  exact bnop0 rfl (by decide)
theorem bf_X0_kindsOf_161 : BOKt mt tX0_kindsOf 211 161 b_X0_kindsOf_161 := by
  refine bnop1 ?_
  refine bplain (pc' := 164) rfl dX0_kindsOf_161 rfl (ihN rfl) rfl ?_
  refine bjmp (tg := 59) (pc' := 167) rfl (by decide) (by decide) rfl dX0_kindsOf_164 rfl (ihN rfl) rfl ?_
  exact trivial
theorem bf_X0_kindsOf_167 : BOKt mt tX0_kindsOf 211 167 b_X0_kindsOf_167 := by
  refine bnop1 ?_
  refine bplain (pc' := 170) rfl dX0_kindsOf_167 rfl (ihN rfl) rfl ?_
  refine bjmp (tg := 24) (pc' := 173) rfl (by decide) (by decide) rfl dX0_kindsOf_170 rfl (ihN rfl) rfl ?_
  exact trivial
theorem bf_X0_kindsOf_173 : BOKt mt tX0_kindsOf 211 173 b_X0_kindsOf_173 := by
  refine bplain (pc' := 174) rfl dX0_kindsOf_173 rfl (ihN rfl) rfl ?_
  refine bret (pc' := 175) rfl dX0_kindsOf_174 rfl (⟨_, rfl, Or.inl ⟨_, rfl⟩⟩) (ihN rfl) rfl ?_
  exact trivial
theorem tf_X0_kindsOf : ∀ x ∈ tb_X0_kindsOf, BOK mt 211 x.1 x.2 := tb_c mt_X0_kindsOf bf_X0_kindsOf_0 (tb_c mt_X0_kindsOf bf_X0_kindsOf_24 (tb_c mt_X0_kindsOf bf_X0_kindsOf_46 (tb_c mt_X0_kindsOf bf_X0_kindsOf_59 (tb_c mt_X0_kindsOf bf_X0_kindsOf_100 (tb_c mt_X0_kindsOf bf_X0_kindsOf_150 (tb_c mt_X0_kindsOf bf_X0_kindsOf_161 (tb_c mt_X0_kindsOf bf_X0_kindsOf_167 (tb_c mt_X0_kindsOf bf_X0_kindsOf_173 (tb_n)))))))))
theorem bf_J1_size_0 : BOKt mt tJ1_size 212 0 b_J1_size_0 := by
  refine bplain (pc' := 1) rfl dJ1_size_0 rfl (ihN rfl) rfl ?_
  refine bthr (pc' := 4) rfl dJ1_size_1 rfl (lkf0 q209 lf_90) (trivial) (ihN rfl) rfl ?_
  refine bret (pc' := 5) rfl dJ1_size_4 rfl (Or.inl ⟨rfl, rfl⟩) (ihN rfl) rfl ?_
  exact trivial
theorem tf_J1_size : ∀ x ∈ tb_J1_size, BOK mt 212 x.1 x.2 := tb_c mt_J1_size bf_J1_size_0 (tb_n)
theorem bf_X0_kinds_0 : BOKt mt tX0_kinds 213 0 b_X0_kinds_0 := by
  refine bplain (pc' := 1) rfl dX0_kinds_0 rfl (ihN rfl) rfl ?_
  refine bplain (pc' := 2) rfl dX0_kinds_1 rfl (ihN rfl) rfl ?_
  refine bcall (pc' := 5) rfl dX0_kinds_2 rfl (trivial) (lcv (n := 1) rfl (pvc (lfv mt_X0_isStatement ⟨by decide, by decide⟩ mok_X0_isStatement ⟨by decide, by decide⟩ ⟨q1773, ln_222, Or.inl ⟨q1771, Or.inl qs16⟩⟩) (trivial)) (Or.inl (by decide))) (ihN rfl) rfl ?_
  refine bjmp (tg := 27) (pc' := 8) rfl (by decide) (by decide) rfl dX0_kinds_5 rfl (ihN rfl) rfl ?_
  refine bplain (pc' := 9) rfl dX0_kinds_8 rfl (ihN rfl) rfl ?_
  refine bcall (pc' := 12) rfl dX0_kinds_9 rfl (trivial) (lcs (l := q1210) mt_X0_isRow ⟨by decide, by decide⟩ mok_X0_isRow rfl ln_222 (Or.inl q1209)) (ihN rfl) rfl ?_
  refine bjmp (tg := 27) (pc' := 15) rfl (by decide) (by decide) rfl dX0_kinds_12 rfl (ihN rfl) rfl ?_
  refine bplain (pc' := 16) rfl dX0_kinds_15 rfl (ihN rfl) rfl ?_
  refine bplain (pc' := 17) rfl dX0_kinds_16 rfl (ihN rfl) rfl ?_
  refine bplain (pc' := 18) rfl dX0_kinds_17 rfl (ihN rfl) rfl ?_
  refine bcall (pc' := 21) rfl dX0_kinds_18 rfl (trivial) (lcv (n := 2) rfl (pvc (lfv mt_X0_kindsOf ⟨by decide, by decide⟩ mok_X0_kindsOf ⟨by decide, by decide⟩ ⟨q1981, ln_402, Or.inl ⟨q1979, Or.inl qs22⟩⟩) (trivial)) (Or.inl (by decide))) (ihN rfl) rfl ?_
  refine bcall (pc' := 24) rfl dX0_kinds_21 rfl (trivial) (lcv (n := 0) rfl (pvc (lfv mt_J1_size ⟨by decide, by decide⟩ mok_J1_size ⟨by decide, by decide⟩ ⟨q2041, ln_40, Or.inr (Or.inr ⟨rfl, ⟨"java/util/LinkedHashMap", "size", "()I"⟩, "java/util/HashMap", q2037, q2038, lv_84, ln_40, q2040, Or.inl ⟨_, _, _, q2041, q2042⟩⟩)⟩) (trivial)) (Or.inl (by decide))) (ihN rfl) rfl ?_
  refine bjmp (tg := 29) (pc' := 27) rfl (by decide) (by decide) rfl dX0_kinds_24 rfl (ihN rfl) rfl ?_
  exact trivial
theorem bf_X0_kinds_27 : BOKt mt tX0_kinds 213 27 b_X0_kinds_27 := by
  refine bnop1 ?_
  refine bplain (pc' := 29) rfl dX0_kinds_27 rfl (ihN rfl) rfl ?_
  exact bnop0 rfl (by decide)
theorem bf_X0_kinds_29 : BOKt mt tX0_kinds 213 29 b_X0_kinds_29 := by
  refine bnop1 ?_
  refine bret (pc' := 30) rfl dX0_kinds_29 rfl (Or.inl ⟨rfl, rfl⟩) (ihN rfl) rfl ?_
  exact trivial
theorem tf_X0_kinds : ∀ x ∈ tb_X0_kinds, BOK mt 213 x.1 x.2 := tb_c mt_X0_kinds bf_X0_kinds_0 (tb_c mt_X0_kinds bf_X0_kinds_27 (tb_c mt_X0_kinds bf_X0_kinds_29 (tb_n)))
theorem bf_X3_isLooked_0 : BOKt mt tX3_isLooked 214 0 b_X3_isLooked_0 := by
  refine bplain (pc' := 1) rfl dX3_isLooked_0 rfl (ihN rfl) rfl ?_
  refine bthr (pc' := 4) rfl dX3_isLooked_1 rfl (lkf0 q2610 lf_165) (trivial) (ihN rfl) rfl ?_
  refine bplain (pc' := 5) rfl dX3_isLooked_4 rfl (ihN rfl) rfl ?_
  refine bplain (pc' := 6) rfl dX3_isLooked_5 rfl (ihN rfl) rfl ?_
  refine bplain (pc' := 7) rfl dX3_isLooked_6 rfl (ihN rfl) rfl ?_
  refine bjmp (tg := 34) (pc' := 10) rfl (by decide) (by decide) rfl dX3_isLooked_7 rfl (ihN rfl) rfl ?_
  refine bplain (pc' := 11) rfl dX3_isLooked_10 rfl (ihN rfl) rfl ?_
  refine bplain (pc' := 12) rfl dX3_isLooked_11 rfl (ihN rfl) rfl ?_
  refine bplain (pc' := 13) rfl dX3_isLooked_12 rfl (ihN rfl) rfl ?_
  refine bplain (pc' := 14) rfl dX3_isLooked_13 rfl (ihN rfl) rfl ?_
  refine bjmp (tg := 30) (pc' := 17) rfl (by decide) (by decide) rfl dX3_isLooked_14 rfl (ihN rfl) rfl ?_
  refine bplain (pc' := 18) rfl dX3_isLooked_17 rfl (ihN rfl) rfl ?_
  refine bthr (pc' := 21) rfl dX3_isLooked_18 rfl (lkf0 q2605 lf_155) (trivial) (ihN rfl) rfl ?_
  refine bplain (pc' := 22) rfl dX3_isLooked_21 rfl (ihN rfl) rfl ?_
  refine bplain (pc' := 23) rfl dX3_isLooked_22 rfl (ihN rfl) rfl ?_
  refine bplain (pc' := 24) rfl dX3_isLooked_23 rfl (ihN rfl) rfl ?_
  refine bplain (pc' := 25) rfl dX3_isLooked_24 rfl (ihN rfl) rfl ?_
  refine bplain (pc' := 27) rfl dX3_isLooked_25 rfl (ihN rfl) rfl ?_
  refine bjmp (tg := 34) (pc' := 30) rfl (by decide) (by decide) rfl dX3_isLooked_27 rfl (ihN rfl) rfl ?_
  exact bnop0 rfl (by decide)
theorem bf_X3_isLooked_30 : BOKt mt tX3_isLooked 214 30 b_X3_isLooked_30 := by
  refine bnop1 ?_
  refine bplain (pc' := 31) rfl dX3_isLooked_30 rfl (ihN rfl) rfl ?_
  refine bjmp (tg := 35) (pc' := 34) rfl (by decide) (by decide) rfl dX3_isLooked_31 rfl (ihN rfl) rfl ?_
  exact trivial
theorem bf_X3_isLooked_34 : BOKt mt tX3_isLooked 214 34 b_X3_isLooked_34 := by
  refine bnop1 ?_
  refine bplain (pc' := 35) rfl dX3_isLooked_34 rfl (ihN rfl) rfl ?_
  exact bnop0 rfl (by decide)
theorem bf_X3_isLooked_35 : BOKt mt tX3_isLooked 214 35 b_X3_isLooked_35 := by
  refine bnop1 ?_
  refine bret (pc' := 36) rfl dX3_isLooked_35 rfl (Or.inr ⟨rfl, rfl⟩) (ihN rfl) rfl ?_
  exact trivial
theorem tf_X3_isLooked : ∀ x ∈ tb_X3_isLooked, BOK mt 214 x.1 x.2 := tb_c mt_X3_isLooked bf_X3_isLooked_0 (tb_c mt_X3_isLooked bf_X3_isLooked_30 (tb_c mt_X3_isLooked bf_X3_isLooked_34 (tb_c mt_X3_isLooked bf_X3_isLooked_35 (tb_n))))
theorem bf_X3_addsKind_0 : BOKt mt tX3_addsKind 215 0 b_X3_addsKind_0 := by
  refine bplain (pc' := 1) rfl dX3_addsKind_0 rfl (ihN rfl) rfl ?_
  refine bplain (pc' := 2) rfl dX3_addsKind_1 rfl (ihN rfl) rfl ?_
  refine bplain (pc' := 3) rfl dX3_addsKind_2 rfl (ihN rfl) rfl ?_
  refine bplain (pc' := 5) rfl dX3_addsKind_3 rfl (ihN rfl) rfl ?_
  exact bnop0 rfl (by decide)
theorem bf_X3_addsKind_5 : BOKt mt tX3_addsKind 215 5 b_X3_addsKind_5 := by
  refine bnop1 ?_
  refine bplain (pc' := 7) rfl dX3_addsKind_5 rfl (ihN rfl) rfl ?_
  refine bplain (pc' := 8) rfl dX3_addsKind_7 rfl (ihN rfl) rfl ?_
  refine bthr (pc' := 11) rfl dX3_addsKind_8 rfl (lkf0 q2619 lf_403) (trivial) (ihN rfl) rfl ?_
  refine bjmp (tg := 95) (pc' := 14) rfl (by decide) (by decide) rfl dX3_addsKind_11 rfl (ihN rfl) rfl ?_
  refine bplain (pc' := 15) rfl dX3_addsKind_14 rfl (ihN rfl) rfl ?_
  refine bthr (pc' := 18) rfl dX3_addsKind_15 rfl (lkf0 q2618 lf_177) (trivial) (ihN rfl) rfl ?_
  refine bplain (pc' := 19) rfl dX3_addsKind_18 rfl (ihN rfl) rfl ?_
  refine bplain (pc' := 21) rfl dX3_addsKind_19 rfl (ihN rfl) rfl ?_
  refine bplain (pc' := 22) rfl dX3_addsKind_21 rfl (ihN rfl) rfl ?_
  refine bplain (pc' := 23) rfl dX3_addsKind_22 rfl (ihN rfl) rfl ?_
  refine bplain (pc' := 24) rfl dX3_addsKind_23 rfl (ihN rfl) rfl ?_
  refine bplain (pc' := 25) rfl dX3_addsKind_24 rfl (ihN rfl) rfl ?_
  refine bplain (pc' := 26) rfl dX3_addsKind_25 rfl (ihN rfl) rfl ?_
  refine bcall (pc' := 29) rfl dX3_addsKind_26 rfl (trivial) (lcv (n := 2) rfl (pvc (lfv mt_X3_firstOf ⟨by decide, by decide⟩ mok_X3_firstOf ⟨by decide, by decide⟩ ⟨q2889, ln_252, Or.inl ⟨q2887, Or.inl qs78⟩⟩) (trivial)) (Or.inl (by decide))) (ihN rfl) rfl ?_
  refine bjmp (tg := 74) (pc' := 32) rfl (by decide) (by decide) rfl dX3_addsKind_29 rfl (ihN rfl) rfl ?_
  refine bplain (pc' := 33) rfl dX3_addsKind_32 rfl (ihN rfl) rfl ?_
  refine bthr (pc' := 36) rfl dX3_addsKind_33 rfl (lkf0 q2618 lf_177) (trivial) (ihN rfl) rfl ?_
  refine bplain (pc' := 37) rfl dX3_addsKind_36 rfl (ihN rfl) rfl ?_
  refine bplain (pc' := 39) rfl dX3_addsKind_37 rfl (ihN rfl) rfl ?_
  refine bplain (pc' := 40) rfl dX3_addsKind_39 rfl (ihN rfl) rfl ?_
  refine bplain (pc' := 41) rfl dX3_addsKind_40 rfl (ihN rfl) rfl ?_
  refine bplain (pc' := 42) rfl dX3_addsKind_41 rfl (ihN rfl) rfl ?_
  refine bplain (pc' := 43) rfl dX3_addsKind_42 rfl (ihN rfl) rfl ?_
  refine bplain (pc' := 44) rfl dX3_addsKind_43 rfl (ihN rfl) rfl ?_
  refine bplain (pc' := 45) rfl dX3_addsKind_44 rfl (ihN rfl) rfl ?_
  refine bcall (pc' := 48) rfl dX3_addsKind_45 rfl (trivial) (lcv (n := 1) rfl (pvc (lfv mt_X3_strideOf ⟨by decide, by decide⟩ mok_X3_strideOf ⟨by decide, by decide⟩ ⟨q2897, ln_225, Or.inl ⟨q2895, Or.inl qs80⟩⟩) (trivial)) (Or.inl (by decide))) (ihN rfl) rfl ?_
  refine bjmp (tg := 74) (pc' := 51) rfl (by decide) (by decide) rfl dX3_addsKind_48 rfl (ihN rfl) rfl ?_
  refine bplain (pc' := 52) rfl dX3_addsKind_51 rfl (ihN rfl) rfl ?_
  refine bthr (pc' := 55) rfl dX3_addsKind_52 rfl (lkf0 q2618 lf_177) (trivial) (ihN rfl) rfl ?_
  refine bplain (pc' := 56) rfl dX3_addsKind_55 rfl (ihN rfl) rfl ?_
  refine bplain (pc' := 58) rfl dX3_addsKind_56 rfl (ihN rfl) rfl ?_
  refine bplain (pc' := 59) rfl dX3_addsKind_58 rfl (ihN rfl) rfl ?_
  refine bplain (pc' := 60) rfl dX3_addsKind_59 rfl (ihN rfl) rfl ?_
  refine bplain (pc' := 61) rfl dX3_addsKind_60 rfl (ihN rfl) rfl ?_
  refine bplain (pc' := 62) rfl dX3_addsKind_61 rfl (ihN rfl) rfl ?_
  refine bplain (pc' := 63) rfl dX3_addsKind_62 rfl (ihN rfl) rfl ?_
  refine bplain (pc' := 64) rfl dX3_addsKind_63 rfl (ihN rfl) rfl ?_
  refine bcall (pc' := 67) rfl dX3_addsKind_64 rfl (trivial) (lcv (n := 1) rfl (pvc (lfv mt_X3_manyOf ⟨by decide, by decide⟩ mok_X3_manyOf ⟨by decide, by decide⟩ ⟨q2901, ln_225, Or.inl ⟨q2899, Or.inl qs81⟩⟩) (trivial)) (Or.inl (by decide))) (ihN rfl) rfl ?_
  refine bjmp (tg := 74) (pc' := 70) rfl (by decide) (by decide) rfl dX3_addsKind_67 rfl (ihN rfl) rfl ?_
  refine bplain (pc' := 71) rfl dX3_addsKind_70 rfl (ihN rfl) rfl ?_
  refine bjmp (tg := 75) (pc' := 74) rfl (by decide) (by decide) rfl dX3_addsKind_71 rfl (ihN rfl) rfl ?_
  exact trivial
theorem bf_X3_addsKind_74 : BOKt mt tX3_addsKind 215 74 b_X3_addsKind_74 := by
  refine bnop1 ?_
  refine bplain (pc' := 75) rfl dX3_addsKind_74 rfl (ihN rfl) rfl ?_
  exact bnop0 rfl (by decide)
theorem bf_X3_addsKind_75 : BOKt mt tX3_addsKind 215 75 b_X3_addsKind_75 := by
  refine bnop1 ?_
  refine bplain (pc' := 77) rfl dX3_addsKind_75 rfl (ihN rfl) rfl ?_
  refine bplain (pc' := 79) rfl dX3_addsKind_77 rfl (ihN rfl) rfl ?_
  refine bjmp (tg := 87) (pc' := 82) rfl (by decide) (by decide) rfl dX3_addsKind_79 rfl (ihN rfl) rfl ?_
  refine bplain (pc' := 84) rfl dX3_addsKind_82 rfl (ihN rfl) rfl ?_
  refine bjmp (tg := 88) (pc' := 87) rfl (by decide) (by decide) rfl dX3_addsKind_84 rfl (ihN rfl) rfl ?_
  exact trivial
theorem bf_X3_addsKind_87 : BOKt mt tX3_addsKind 215 87 b_X3_addsKind_87 := by
  refine bplain (pc' := 88) rfl dX3_addsKind_87 rfl (ihN rfl) rfl ?_
  exact bnop0 rfl (by decide)
theorem bf_X3_addsKind_88 : BOKt mt tX3_addsKind 215 88 b_X3_addsKind_88 := by
  refine bnop1 ?_
  refine bplain (pc' := 89) rfl dX3_addsKind_88 rfl (ihN rfl) rfl ?_
  refine bplain (pc' := 92) rfl dX3_addsKind_89 rfl (ihN rfl) rfl ?_
  refine bjmp (tg := 5) (pc' := 95) rfl (by decide) (by decide) rfl dX3_addsKind_92 rfl (ihN rfl) rfl ?_
  exact trivial
theorem bf_X3_addsKind_95 : BOKt mt tX3_addsKind 215 95 b_X3_addsKind_95 := by
  refine bplain (pc' := 96) rfl dX3_addsKind_95 rfl (ihN rfl) rfl ?_
  refine bplain (pc' := 97) rfl dX3_addsKind_96 rfl (ihN rfl) rfl ?_
  refine bjmp (tg := 170) (pc' := 100) rfl (by decide) (by decide) rfl dX3_addsKind_97 rfl (ihN rfl) rfl ?_
  refine bplain (pc' := 101) rfl dX3_addsKind_100 rfl (ihN rfl) rfl ?_
  refine bthr (pc' := 104) rfl dX3_addsKind_101 rfl (lkf0 q2619 lf_403) (trivial) (ihN rfl) rfl ?_
  refine bplain (pc' := 105) rfl dX3_addsKind_104 rfl (ihN rfl) rfl ?_
  refine bplain (pc' := 106) rfl dX3_addsKind_105 rfl (ihN rfl) rfl ?_
  refine bthr (pc' := 109) rfl dX3_addsKind_106 rfl (lkf0 q2618 lf_177) (trivial) (ihN rfl) rfl ?_
  refine bplain (pc' := 110) rfl dX3_addsKind_109 rfl (ihN rfl) rfl ?_
  refine bplain (pc' := 111) rfl dX3_addsKind_110 rfl (ihN rfl) rfl ?_
  refine bplain (pc' := 112) rfl dX3_addsKind_111 rfl (ihN rfl) rfl ?_
  refine bplain (pc' := 113) rfl dX3_addsKind_112 rfl (ihN rfl) rfl ?_
  refine bplain (pc' := 114) rfl dX3_addsKind_113 rfl (ihN rfl) rfl ?_
  refine bplain (pc' := 115) rfl dX3_addsKind_114 rfl (ihN rfl) rfl ?_
  refine bcall (pc' := 118) rfl dX3_addsKind_115 rfl (trivial) (lcv (n := 2) rfl (pvc (lfv mt_X3_firstOf ⟨by decide, by decide⟩ mok_X3_firstOf ⟨by decide, by decide⟩ ⟨q2889, ln_252, Or.inl ⟨q2887, Or.inl qs78⟩⟩) (trivial)) (Or.inl (by decide))) (ihN rfl) rfl ?_
  refine bplain (pc' := 119) rfl dX3_addsKind_118 rfl (ihN rfl) rfl ?_
  refine bplain (pc' := 120) rfl dX3_addsKind_119 rfl (ihN rfl) rfl ?_
  refine bthr (pc' := 123) rfl dX3_addsKind_120 rfl (lkf0 q2618 lf_177) (trivial) (ihN rfl) rfl ?_
  refine bplain (pc' := 124) rfl dX3_addsKind_123 rfl (ihN rfl) rfl ?_
  refine bplain (pc' := 125) rfl dX3_addsKind_124 rfl (ihN rfl) rfl ?_
  refine bplain (pc' := 126) rfl dX3_addsKind_125 rfl (ihN rfl) rfl ?_
  refine bplain (pc' := 127) rfl dX3_addsKind_126 rfl (ihN rfl) rfl ?_
  refine bplain (pc' := 128) rfl dX3_addsKind_127 rfl (ihN rfl) rfl ?_
  refine bplain (pc' := 129) rfl dX3_addsKind_128 rfl (ihN rfl) rfl ?_
  refine bplain (pc' := 130) rfl dX3_addsKind_129 rfl (ihN rfl) rfl ?_
  refine bcall (pc' := 133) rfl dX3_addsKind_130 rfl (trivial) (lcv (n := 1) rfl (pvc (lfv mt_X3_strideOf ⟨by decide, by decide⟩ mok_X3_strideOf ⟨by decide, by decide⟩ ⟨q2897, ln_225, Or.inl ⟨q2895, Or.inl qs80⟩⟩) (trivial)) (Or.inl (by decide))) (ihN rfl) rfl ?_
  refine bplain (pc' := 134) rfl dX3_addsKind_133 rfl (ihN rfl) rfl ?_
  refine bplain (pc' := 135) rfl dX3_addsKind_134 rfl (ihN rfl) rfl ?_
  refine bthr (pc' := 138) rfl dX3_addsKind_135 rfl (lkf0 q2618 lf_177) (trivial) (ihN rfl) rfl ?_
  refine bplain (pc' := 139) rfl dX3_addsKind_138 rfl (ihN rfl) rfl ?_
  refine bplain (pc' := 140) rfl dX3_addsKind_139 rfl (ihN rfl) rfl ?_
  refine bplain (pc' := 141) rfl dX3_addsKind_140 rfl (ihN rfl) rfl ?_
  refine bplain (pc' := 142) rfl dX3_addsKind_141 rfl (ihN rfl) rfl ?_
  refine bplain (pc' := 143) rfl dX3_addsKind_142 rfl (ihN rfl) rfl ?_
  refine bplain (pc' := 144) rfl dX3_addsKind_143 rfl (ihN rfl) rfl ?_
  refine bplain (pc' := 145) rfl dX3_addsKind_144 rfl (ihN rfl) rfl ?_
  refine bcall (pc' := 148) rfl dX3_addsKind_145 rfl (trivial) (lcv (n := 1) rfl (pvc (lfv mt_X3_manyOf ⟨by decide, by decide⟩ mok_X3_manyOf ⟨by decide, by decide⟩ ⟨q2901, ln_225, Or.inl ⟨q2899, Or.inl qs81⟩⟩) (trivial)) (Or.inl (by decide))) (ihN rfl) rfl ?_
  refine bplain (pc' := 149) rfl dX3_addsKind_148 rfl (ihN rfl) rfl ?_
  refine bplain (pc' := 150) rfl dX3_addsKind_149 rfl (ihN rfl) rfl ?_
  refine bthr (pc' := 153) rfl dX3_addsKind_150 rfl (lkf0 q2618 lf_177) (trivial) (ihN rfl) rfl ?_
  refine bplain (pc' := 154) rfl dX3_addsKind_153 rfl (ihN rfl) rfl ?_
  refine bplain (pc' := 155) rfl dX3_addsKind_154 rfl (ihN rfl) rfl ?_
  refine bplain (pc' := 156) rfl dX3_addsKind_155 rfl (ihN rfl) rfl ?_
  refine bplain (pc' := 157) rfl dX3_addsKind_156 rfl (ihN rfl) rfl ?_
  refine bplain (pc' := 158) rfl dX3_addsKind_157 rfl (ihN rfl) rfl ?_
  refine bplain (pc' := 159) rfl dX3_addsKind_158 rfl (ihN rfl) rfl ?_
  refine bplain (pc' := 160) rfl dX3_addsKind_159 rfl (ihN rfl) rfl ?_
  refine bplain (pc' := 161) rfl dX3_addsKind_160 rfl (ihN rfl) rfl ?_
  refine bplain (pc' := 162) rfl dX3_addsKind_161 rfl (ihN rfl) rfl ?_
  refine bthr (pc' := 165) rfl dX3_addsKind_162 rfl (lkf0 q2619 lf_403) (trivial) (ihN rfl) rfl ?_
  refine bplain (pc' := 166) rfl dX3_addsKind_165 rfl (ihN rfl) rfl ?_
  refine bplain (pc' := 167) rfl dX3_addsKind_166 rfl (ihN rfl) rfl ?_
  refine bobj (pc' := 170) rfl dX3_addsKind_167 rfl (⟨lkf0 q2619 lf_403, lkp0 lp_404⟩) (ihN rfl) rfl ?_
  exact bnop0 rfl (by decide)
theorem bf_X3_addsKind_170 : BOKt mt tX3_addsKind 215 170 b_X3_addsKind_170 := by
  refine bnop1 ?_
  refine bplain (pc' := 171) rfl dX3_addsKind_170 rfl (ihN rfl) rfl ?_
  refine bthr (pc' := 174) rfl dX3_addsKind_171 rfl (lkf0 q2618 lf_177) (trivial) (ihN rfl) rfl ?_
  refine bplain (pc' := 175) rfl dX3_addsKind_174 rfl (ihN rfl) rfl ?_
  refine bplain (pc' := 176) rfl dX3_addsKind_175 rfl (ihN rfl) rfl ?_
  refine bplain (pc' := 177) rfl dX3_addsKind_176 rfl (ihN rfl) rfl ?_
  refine bplain (pc' := 178) rfl dX3_addsKind_177 rfl (ihN rfl) rfl ?_
  refine bplain (pc' := 179) rfl dX3_addsKind_178 rfl (ihN rfl) rfl ?_
  refine bplain (pc' := 180) rfl dX3_addsKind_179 rfl (ihN rfl) rfl ?_
  refine bplain (pc' := 181) rfl dX3_addsKind_180 rfl (ihN rfl) rfl ?_
  refine bplain (pc' := 182) rfl dX3_addsKind_181 rfl (ihN rfl) rfl ?_
  refine bplain (pc' := 183) rfl dX3_addsKind_182 rfl (ihN rfl) rfl ?_
  refine bplain (pc' := 184) rfl dX3_addsKind_183 rfl (ihN rfl) rfl ?_
  refine bret (pc' := 185) rfl dX3_addsKind_184 rfl (rfl) (ihN rfl) rfl ?_
  exact trivial
theorem tf_X3_addsKind : ∀ x ∈ tb_X3_addsKind, BOK mt 215 x.1 x.2 := tb_c mt_X3_addsKind bf_X3_addsKind_0 (tb_c mt_X3_addsKind bf_X3_addsKind_5 (tb_c mt_X3_addsKind bf_X3_addsKind_74 (tb_c mt_X3_addsKind bf_X3_addsKind_75 (tb_c mt_X3_addsKind bf_X3_addsKind_87 (tb_c mt_X3_addsKind bf_X3_addsKind_88 (tb_c mt_X3_addsKind bf_X3_addsKind_95 (tb_c mt_X3_addsKind bf_X3_addsKind_170 (tb_n))))))))
theorem bf_X3_addsIf_0 : BOKt mt tX3_addsIf 216 0 b_X3_addsIf_0 := by
  refine bplain (pc' := 1) rfl dX3_addsIf_0 rfl (ihN rfl) rfl ?_
  refine bplain (pc' := 2) rfl dX3_addsIf_1 rfl (ihN rfl) rfl ?_
  refine bcall (pc' := 5) rfl dX3_addsIf_2 rfl (trivial) (lcv (n := 1) rfl (pvc (lfv mt_X3_isLooked ⟨by decide, by decide⟩ mok_X3_isLooked ⟨by decide, by decide⟩ ⟨q2929, ln_222, Or.inl ⟨q2927, Or.inl qs86⟩⟩) (trivial)) (Or.inl (by decide))) (ihN rfl) rfl ?_
  refine bjmp (tg := 24) (pc' := 8) rfl (by decide) (by decide) rfl dX3_addsIf_5 rfl (ihN rfl) rfl ?_
  refine bplain (pc' := 9) rfl dX3_addsIf_8 rfl (ihN rfl) rfl ?_
  refine bthr (pc' := 12) rfl dX3_addsIf_9 rfl (lkf0 q2610 lf_165) (trivial) (ihN rfl) rfl ?_
  refine bplain (pc' := 13) rfl dX3_addsIf_12 rfl (ihN rfl) rfl ?_
  refine bplain (pc' := 14) rfl dX3_addsIf_13 rfl (ihN rfl) rfl ?_
  refine bplain (pc' := 15) rfl dX3_addsIf_14 rfl (ihN rfl) rfl ?_
  refine bjmp (tg := 24) (pc' := 18) rfl (by decide) (by decide) rfl dX3_addsIf_15 rfl (ihN rfl) rfl ?_
  refine bplain (pc' := 19) rfl dX3_addsIf_18 rfl (ihN rfl) rfl ?_
  refine bplain (pc' := 20) rfl dX3_addsIf_19 rfl (ihN rfl) rfl ?_
  refine bplain (pc' := 21) rfl dX3_addsIf_20 rfl (ihN rfl) rfl ?_
  refine bcall (pc' := 24) rfl dX3_addsIf_21 rfl (trivial) (lcv (n := 2) rfl (pvc (lfv mt_X3_addsKind ⟨by decide, by decide⟩ mok_X3_addsKind ⟨by decide, by decide⟩ ⟨q2933, ln_224, Or.inl ⟨q2931, Or.inl qs87⟩⟩) (trivial)) (Or.inl (by decide))) (ihN rfl) rfl ?_
  exact bnop0 rfl (by decide)
theorem bf_X3_addsIf_24 : BOKt mt tX3_addsIf 216 24 b_X3_addsIf_24 := by
  refine bnop1 ?_
  refine bret (pc' := 25) rfl dX3_addsIf_24 rfl (rfl) (ihN rfl) rfl ?_
  exact trivial
theorem tf_X3_addsIf : ∀ x ∈ tb_X3_addsIf, BOK mt 216 x.1 x.2 := tb_c mt_X3_addsIf bf_X3_addsIf_0 (tb_c mt_X3_addsIf bf_X3_addsIf_24 (tb_n))
theorem bf_X3_findsKinds_0 : BOKt mt tX3_findsKinds 217 0 b_X3_findsKinds_0 := by
  refine bplain (pc' := 1) rfl dX3_findsKinds_0 rfl (ihN rfl) rfl ?_
  refine bplain (pc' := 2) rfl dX3_findsKinds_1 rfl (ihN rfl) rfl ?_
  refine bobj (pc' := 5) rfl dX3_findsKinds_2 rfl (⟨lkf0 q2619 lf_403, lkp0 lp_404⟩) (ihN rfl) rfl ?_
  refine bplain (pc' := 6) rfl dX3_findsKinds_5 rfl (ihN rfl) rfl ?_
  refine bplain (pc' := 7) rfl dX3_findsKinds_6 rfl (ihN rfl) rfl ?_
  exact bnop0 rfl (by decide)
theorem bf_X3_findsKinds_7 : BOKt mt tX3_findsKinds 217 7 b_X3_findsKinds_7 := by
  refine bplain (pc' := 8) rfl dX3_findsKinds_7 rfl (ihN rfl) rfl ?_
  refine bplain (pc' := 9) rfl dX3_findsKinds_8 rfl (ihN rfl) rfl ?_
  refine bthr (pc' := 12) rfl dX3_findsKinds_9 rfl (lkf0 q2603 lf_274) (trivial) (ihN rfl) rfl ?_
  refine bjmp (tg := 61) (pc' := 15) rfl (by decide) (by decide) rfl dX3_findsKinds_12 rfl (ihN rfl) rfl ?_
  refine bplain (pc' := 16) rfl dX3_findsKinds_15 rfl (ihN rfl) rfl ?_
  refine bplain (pc' := 17) rfl dX3_findsKinds_16 rfl (ihN rfl) rfl ?_
  refine bplain (pc' := 18) rfl dX3_findsKinds_17 rfl (ihN rfl) rfl ?_
  refine bcall (pc' := 21) rfl dX3_findsKinds_18 rfl (trivial) (lcv (n := 2) rfl (pvc (lfv mt_X3_isDone ⟨by decide, by decide⟩ mok_X3_isDone ⟨by decide, by decide⟩ ⟨q2865, ln_339, Or.inl ⟨q2863, Or.inl qs74⟩⟩) (trivial)) (Or.inl (by decide))) (ihN rfl) rfl ?_
  refine bjmp (tg := 55) (pc' := 24) rfl (by decide) (by decide) rfl dX3_findsKinds_21 rfl (ihN rfl) rfl ?_
  refine bplain (pc' := 25) rfl dX3_findsKinds_24 rfl (ihN rfl) rfl ?_
  refine bplain (pc' := 26) rfl dX3_findsKinds_25 rfl (ihN rfl) rfl ?_
  refine bplain (pc' := 27) rfl dX3_findsKinds_26 rfl (ihN rfl) rfl ?_
  refine bplain (pc' := 28) rfl dX3_findsKinds_27 rfl (ihN rfl) rfl ?_
  refine bplain (pc' := 29) rfl dX3_findsKinds_28 rfl (ihN rfl) rfl ?_
  refine bplain (pc' := 30) rfl dX3_findsKinds_29 rfl (ihN rfl) rfl ?_
  refine bplain (pc' := 31) rfl dX3_findsKinds_30 rfl (ihN rfl) rfl ?_
  refine bplain (pc' := 32) rfl dX3_findsKinds_31 rfl (ihN rfl) rfl ?_
  refine bcall (pc' := 35) rfl dX3_findsKinds_32 rfl (trivial) (lcv (n := 3) rfl (pvc (lfv mt_X3_addsIf ⟨by decide, by decide⟩ mok_X3_addsIf ⟨by decide, by decide⟩ ⟨q2925, ln_237, Or.inl ⟨q2923, Or.inl qs85⟩⟩) (trivial)) (Or.inl (by decide))) (ihN rfl) rfl ?_
  refine bplain (pc' := 36) rfl dX3_findsKinds_35 rfl (ihN rfl) rfl ?_
  refine bplain (pc' := 37) rfl dX3_findsKinds_36 rfl (ihN rfl) rfl ?_
  refine bplain (pc' := 38) rfl dX3_findsKinds_37 rfl (ihN rfl) rfl ?_
  refine bplain (pc' := 39) rfl dX3_findsKinds_38 rfl (ihN rfl) rfl ?_
  refine bplain (pc' := 40) rfl dX3_findsKinds_39 rfl (ihN rfl) rfl ?_
  refine bplain (pc' := 41) rfl dX3_findsKinds_40 rfl (ihN rfl) rfl ?_
  refine bplain (pc' := 42) rfl dX3_findsKinds_41 rfl (ihN rfl) rfl ?_
  refine bplain (pc' := 43) rfl dX3_findsKinds_42 rfl (ihN rfl) rfl ?_
  refine bcall (pc' := 46) rfl dX3_findsKinds_43 rfl (trivial) (lcv (n := 3) rfl (pvc (lfv mt_X3_addsIf ⟨by decide, by decide⟩ mok_X3_addsIf ⟨by decide, by decide⟩ ⟨q2925, ln_237, Or.inl ⟨q2923, Or.inl qs85⟩⟩) (trivial)) (Or.inl (by decide))) (ihN rfl) rfl ?_
  refine bplain (pc' := 47) rfl dX3_findsKinds_46 rfl (ihN rfl) rfl ?_
  refine bplain (pc' := 48) rfl dX3_findsKinds_47 rfl (ihN rfl) rfl ?_
  refine bplain (pc' := 49) rfl dX3_findsKinds_48 rfl (ihN rfl) rfl ?_
  refine bplain (pc' := 50) rfl dX3_findsKinds_49 rfl (ihN rfl) rfl ?_
  refine bplain (pc' := 51) rfl dX3_findsKinds_50 rfl (ihN rfl) rfl ?_
  refine bplain (pc' := 52) rfl dX3_findsKinds_51 rfl (ihN rfl) rfl ?_
  refine bcall (pc' := 55) rfl dX3_findsKinds_52 rfl (trivial) (lcv (n := 3) rfl (pvc (lfv mt_X3_addsIf ⟨by decide, by decide⟩ mok_X3_addsIf ⟨by decide, by decide⟩ ⟨q2925, ln_237, Or.inl ⟨q2923, Or.inl qs85⟩⟩) (trivial)) (Or.inl (by decide))) (ihN rfl) rfl ?_
  exact bnop0 rfl (by decide)
theorem bf_X3_findsKinds_55 : BOKt mt tX3_findsKinds 217 55 b_X3_findsKinds_55 := by
  refine bplain (pc' := 58) rfl dX3_findsKinds_55 rfl (ihN rfl) rfl ?_
  refine bjmp (tg := 7) (pc' := 61) rfl (by decide) (by decide) rfl dX3_findsKinds_58 rfl (ihN rfl) rfl ?_
  exact trivial
theorem bf_X3_findsKinds_61 : BOKt mt tX3_findsKinds 217 61 b_X3_findsKinds_61 := by
  refine bplain (pc' := 62) rfl dX3_findsKinds_61 rfl (ihN rfl) rfl ?_
  refine bthr (pc' := 65) rfl dX3_findsKinds_62 rfl (lkf0 q2619 lf_403) (trivial) (ihN rfl) rfl ?_
  refine bret (pc' := 66) rfl dX3_findsKinds_65 rfl (Or.inl ⟨rfl, rfl⟩) (ihN rfl) rfl ?_
  exact trivial
theorem tf_X3_findsKinds : ∀ x ∈ tb_X3_findsKinds, BOK mt 217 x.1 x.2 := tb_c mt_X3_findsKinds bf_X3_findsKinds_0 (tb_c mt_X3_findsKinds bf_X3_findsKinds_7 (tb_c mt_X3_findsKinds bf_X3_findsKinds_55 (tb_c mt_X3_findsKinds bf_X3_findsKinds_61 (tb_n))))
theorem bf_X3_kinds_0 : BOKt mt tX3_kinds 218 0 b_X3_kinds_0 := by
  refine bplain (pc' := 1) rfl dX3_kinds_0 rfl (ihN rfl) rfl ?_
  refine bplain (pc' := 2) rfl dX3_kinds_1 rfl (ihN rfl) rfl ?_
  refine bcall (pc' := 5) rfl dX3_kinds_2 rfl (trivial) (lcv (n := 1) rfl (pvc (lfv mt_X3_isStatement ⟨by decide, by decide⟩ mok_X3_isStatement ⟨by decide, by decide⟩ ⟨q2822, ln_222, Or.inl ⟨q2820, Or.inl qs69⟩⟩) (trivial)) (Or.inl (by decide))) (ihN rfl) rfl ?_
  refine bjmp (tg := 24) (pc' := 8) rfl (by decide) (by decide) rfl dX3_kinds_5 rfl (ihN rfl) rfl ?_
  refine bplain (pc' := 9) rfl dX3_kinds_8 rfl (ihN rfl) rfl ?_
  refine bcall (pc' := 12) rfl dX3_kinds_9 rfl (trivial) (lcs (l := q2744) mt_X3_isRow ⟨by decide, by decide⟩ mok_X3_isRow rfl ln_222 (Or.inl q2743)) (ihN rfl) rfl ?_
  refine bjmp (tg := 24) (pc' := 15) rfl (by decide) (by decide) rfl dX3_kinds_12 rfl (ihN rfl) rfl ?_
  refine bplain (pc' := 16) rfl dX3_kinds_15 rfl (ihN rfl) rfl ?_
  refine bplain (pc' := 17) rfl dX3_kinds_16 rfl (ihN rfl) rfl ?_
  refine bplain (pc' := 18) rfl dX3_kinds_17 rfl (ihN rfl) rfl ?_
  refine bcall (pc' := 21) rfl dX3_kinds_18 rfl (trivial) (lcv (n := 2) rfl (pvc (lfv mt_X3_findsKinds ⟨by decide, by decide⟩ mok_X3_findsKinds ⟨by decide, by decide⟩ ⟨q2921, ln_252, Or.inl ⟨q2919, Or.inl qs84⟩⟩) (trivial)) (Or.inl (by decide))) (ihN rfl) rfl ?_
  refine bjmp (tg := 26) (pc' := 24) rfl (by decide) (by decide) rfl dX3_kinds_21 rfl (ihN rfl) rfl ?_
  exact trivial
theorem bf_X3_kinds_24 : BOKt mt tX3_kinds 218 24 b_X3_kinds_24 := by
  refine bnop1 ?_
  refine bplain (pc' := 26) rfl dX3_kinds_24 rfl (ihN rfl) rfl ?_
  exact bnop0 rfl (by decide)
theorem bf_X3_kinds_26 : BOKt mt tX3_kinds 218 26 b_X3_kinds_26 := by
  refine bnop1 ?_
  refine bret (pc' := 27) rfl dX3_kinds_26 rfl (Or.inl ⟨rfl, rfl⟩) (ihN rfl) rfl ?_
  exact trivial
theorem tf_X3_kinds : ∀ x ∈ tb_X3_kinds, BOK mt 218 x.1 x.2 := tb_c mt_X3_kinds bf_X3_kinds_0 (tb_c mt_X3_kinds bf_X3_kinds_24 (tb_c mt_X3_kinds bf_X3_kinds_26 (tb_n)))
theorem bf_J35_init_0 : BOKt mt tJ35_init 219 0 b_J35_init_0 := by
  refine bplain (pc' := 1) rfl dJ35_init_0 rfl (ihN rfl) rfl ?_
  refine bplain (pc' := 2) rfl dJ35_init_1 rfl (ihN rfl) rfl ?_
  refine bobj (pc' := 5) rfl dJ35_init_2 rfl (⟨lkf0 q2065 lf_405, lkp1 rfl lp_406⟩) (ihN rfl) rfl ?_
  refine bplain (pc' := 6) rfl dJ35_init_5 rfl (ihN rfl) rfl ?_
  refine bcall (pc' := 9) rfl dJ35_init_6 rfl (trivial) (lci mt_J18_init ⟨by decide, by decide⟩ mok_J18_init rfl rfl rfl ln_0 q1033 rfl (Or.inl q2063)) (ihN rfl) rfl ?_
  refine bplain (pc' := 10) rfl dJ35_init_9 rfl (ihN rfl) rfl ?_
  refine bplain (pc' := 11) rfl dJ35_init_10 rfl (ihN rfl) rfl ?_
  refine bobj (pc' := 14) rfl dJ35_init_11 rfl (⟨lkf0 q2064 lf_407, lkp1 rfl lp_408⟩) (ihN rfl) rfl ?_
  refine bret (pc' := 15) rfl dJ35_init_14 rfl (rfl) (ihN rfl) rfl ?_
  exact trivial
theorem tf_J35_init : ∀ x ∈ tb_J35_init, BOK mt 219 x.1 x.2 := tb_c mt_J35_init bf_J35_init_0 (tb_n)
theorem bf_J34_sequencedValues_0 : BOKt mt tJ34_sequencedValues 220 0 b_J34_sequencedValues_0 := by
  refine bplain (pc' := 1) rfl dJ34_sequencedValues_0 rfl (ihN rfl) rfl ?_
  refine bthr (pc' := 4) rfl dJ34_sequencedValues_1 rfl (lkf0 q216 lf_409) (trivial) (ihN rfl) rfl ?_
  refine bplain (pc' := 5) rfl dJ34_sequencedValues_4 rfl (ihN rfl) rfl ?_
  refine bplain (pc' := 6) rfl dJ34_sequencedValues_5 rfl (ihN rfl) rfl ?_
  refine bjmp (tg := 26) (pc' := 9) rfl (by decide) (by decide) rfl dJ34_sequencedValues_6 rfl (ihN rfl) rfl ?_
  refine bthr (pc' := 12) rfl dJ34_sequencedValues_9 rfl (⟨⟨by decide, by decide, by decide⟩, rfl, q2058, q2059, q182⟩) (trivial) (ihN rfl) rfl ?_
  refine bplain (pc' := 13) rfl dJ34_sequencedValues_12 rfl (ihN rfl) rfl ?_
  refine bplain (pc' := 14) rfl dJ34_sequencedValues_13 rfl (ihN rfl) rfl ?_
  refine bplain (pc' := 15) rfl dJ34_sequencedValues_14 rfl (ihN rfl) rfl ?_
  refine bcall (pc' := 18) rfl dJ34_sequencedValues_15 rfl (trivial) (lci mt_J35_init ⟨by decide, by decide⟩ mok_J35_init rfl rfl rfl ln_410 q2061 rfl (Or.inl q2060)) (ihN rfl) rfl ?_
  refine bplain (pc' := 19) rfl dJ34_sequencedValues_18 rfl (ihN rfl) rfl ?_
  refine bplain (pc' := 20) rfl dJ34_sequencedValues_19 rfl (ihN rfl) rfl ?_
  refine bplain (pc' := 21) rfl dJ34_sequencedValues_20 rfl (ihN rfl) rfl ?_
  refine bobj (pc' := 24) rfl dJ34_sequencedValues_21 rfl (⟨lkf0 q216 lf_409, lkp0 lp_411⟩) (ihN rfl) rfl ?_
  refine bplain (pc' := 25) rfl dJ34_sequencedValues_24 rfl (ihN rfl) rfl ?_
  refine bret (pc' := 26) rfl dJ34_sequencedValues_25 rfl (⟨_, rfl, Or.inl ⟨_, rfl⟩⟩) (ihN rfl) rfl ?_
  exact trivial
theorem bf_J34_sequencedValues_26 : BOKt mt tJ34_sequencedValues 220 26 b_J34_sequencedValues_26 := by
  refine bplain (pc' := 27) rfl dJ34_sequencedValues_26 rfl (ihN rfl) rfl ?_
  refine bthr (pc' := 30) rfl dJ34_sequencedValues_27 rfl (lkc (nm := "java/util/SequencedCollection") q2071 lg_412 lb_413) (Or.inl rfl) (ihN rfl) rfl ?_
  refine bret (pc' := 31) rfl dJ34_sequencedValues_30 rfl (⟨_, rfl, Or.inl ⟨_, rfl⟩⟩) (ihN rfl) rfl ?_
  exact trivial
theorem tf_J34_sequencedValues : ∀ x ∈ tb_J34_sequencedValues, BOK mt 220 x.1 x.2 := tb_c mt_J34_sequencedValues bf_J34_sequencedValues_0 (tb_c mt_J34_sequencedValues bf_J34_sequencedValues_26 (tb_n))
theorem bf_J34_values_0 : BOKt mt tJ34_values 221 0 b_J34_values_0 := by
  refine bplain (pc' := 1) rfl dJ34_values_0 rfl (ihN rfl) rfl ?_
  refine bcall (pc' := 4) rfl dJ34_values_1 rfl (trivial) (lcv (n := 0) rfl (pvc (lfv mt_J34_sequencedValues ⟨by decide, by decide⟩ mok_J34_sequencedValues ⟨by decide, by decide⟩ ⟨q2055, ln_414, Or.inl ⟨q2054, Or.inl q2056⟩⟩) (trivial)) (Or.inl (by decide))) (ihN rfl) rfl ?_
  refine bret (pc' := 5) rfl dJ34_values_4 rfl (⟨_, rfl, Or.inl ⟨_, rfl⟩⟩) (ihN rfl) rfl ?_
  exact trivial
theorem tf_J34_values : ∀ x ∈ tb_J34_values, BOK mt 221 x.1 x.2 := tb_c mt_J34_values bf_J34_values_0 (tb_n)
theorem bf_J38_init_0 : BOKt mt tJ38_init 222 0 b_J38_init_0 := by
  refine bplain (pc' := 1) rfl dJ38_init_0 rfl (ihN rfl) rfl ?_
  refine bplain (pc' := 2) rfl dJ38_init_1 rfl (ihN rfl) rfl ?_
  refine bobj (pc' := 5) rfl dJ38_init_2 rfl (⟨lkf0 q2146 lf_415, lkp1 rfl lp_416⟩) (ihN rfl) rfl ?_
  refine bplain (pc' := 6) rfl dJ38_init_5 rfl (ihN rfl) rfl ?_
  refine bcall (pc' := 9) rfl dJ38_init_6 rfl (trivial) (lco rfl ⟨q2141, q193, q194⟩) (ihN rfl) rfl ?_
  refine bplain (pc' := 10) rfl dJ38_init_9 rfl (ihN rfl) rfl ?_
  refine bplain (pc' := 11) rfl dJ38_init_10 rfl (ihN rfl) rfl ?_
  refine bobj (pc' := 14) rfl dJ38_init_11 rfl (⟨lkf0 q2145 lf_417, lkp0 lp_418⟩) (ihN rfl) rfl ?_
  refine bplain (pc' := 15) rfl dJ38_init_14 rfl (ihN rfl) rfl ?_
  refine bplain (pc' := 16) rfl dJ38_init_15 rfl (ihN rfl) rfl ?_
  refine bjmp (tg := 26) (pc' := 19) rfl (by decide) (by decide) rfl dJ38_init_16 rfl (ihN rfl) rfl ?_
  refine bplain (pc' := 20) rfl dJ38_init_19 rfl (ihN rfl) rfl ?_
  refine bthr (pc' := 23) rfl dJ38_init_20 rfl (lkf0 q1990 lf_63) (trivial) (ihN rfl) rfl ?_
  refine bjmp (tg := 30) (pc' := 26) rfl (by decide) (by decide) rfl dJ38_init_23 rfl (ihN rfl) rfl ?_
  exact trivial
theorem bf_J38_init_26 : BOKt mt tJ38_init 222 26 b_J38_init_26 := by
  refine bplain (pc' := 27) rfl dJ38_init_26 rfl (ihN rfl) rfl ?_
  refine bthr (pc' := 30) rfl dJ38_init_27 rfl (lkf0 q1989 lf_61) (trivial) (ihN rfl) rfl ?_
  exact bnop0 rfl (by decide)
theorem bf_J38_init_30 : BOKt mt tJ38_init 222 30 b_J38_init_30 := by
  refine bnop1 ?_
  refine bobj (pc' := 33) rfl dJ38_init_30 rfl (⟨lkf0 q2142 lf_419, lkp0 lp_420⟩) (ihN rfl) rfl ?_
  refine bplain (pc' := 34) rfl dJ38_init_33 rfl (ihN rfl) rfl ?_
  refine bplain (pc' := 35) rfl dJ38_init_34 rfl (ihN rfl) rfl ?_
  refine bthr (pc' := 38) rfl dJ38_init_35 rfl (lkf0 q210 lf_79) (trivial) (ihN rfl) rfl ?_
  refine bobj (pc' := 41) rfl dJ38_init_38 rfl (⟨lkf0 q2144 lf_421, lkp0 lp_422⟩) (ihN rfl) rfl ?_
  refine bplain (pc' := 42) rfl dJ38_init_41 rfl (ihN rfl) rfl ?_
  refine bplain (pc' := 43) rfl dJ38_init_42 rfl (ihN rfl) rfl ?_
  refine bobj (pc' := 46) rfl dJ38_init_43 rfl (⟨lkf0 q2143 lf_423, lkp0 lp_424⟩) (ihN rfl) rfl ?_
  refine bret (pc' := 47) rfl dJ38_init_46 rfl (rfl) (ihN rfl) rfl ?_
  exact trivial
theorem tf_J38_init : ∀ x ∈ tb_J38_init, BOK mt 222 x.1 x.2 := tb_c mt_J38_init bf_J38_init_0 (tb_c mt_J38_init bf_J38_init_26 (tb_c mt_J38_init bf_J38_init_30 (tb_n)))
theorem bf_J39_init_0 : BOKt mt tJ39_init 223 0 b_J39_init_0 := by
  refine bplain (pc' := 1) rfl dJ39_init_0 rfl (ihN rfl) rfl ?_
  refine bplain (pc' := 2) rfl dJ39_init_1 rfl (ihN rfl) rfl ?_
  refine bplain (pc' := 3) rfl dJ39_init_2 rfl (ihN rfl) rfl ?_
  refine bcall (pc' := 6) rfl dJ39_init_3 rfl (trivial) (lci mt_J38_init ⟨by decide, by decide⟩ mok_J38_init rfl rfl rfl ln_410 q2139 rfl (Or.inl q2138)) (ihN rfl) rfl ?_
  refine bret (pc' := 7) rfl dJ39_init_6 rfl (rfl) (ihN rfl) rfl ?_
  exact trivial
theorem tf_J39_init : ∀ x ∈ tb_J39_init, BOK mt 223 x.1 x.2 := tb_c mt_J39_init bf_J39_init_0 (tb_n)
theorem bf_J35_iterator_0 : BOKt mt tJ35_iterator 224 0 b_J35_iterator_0 := by
  refine bthr (pc' := 3) rfl dJ35_iterator_0 rfl (⟨⟨by decide, by decide, by decide⟩, rfl, q2133, q2134, q186⟩) (trivial) (ihN rfl) rfl ?_
  refine bplain (pc' := 4) rfl dJ35_iterator_3 rfl (ihN rfl) rfl ?_
  refine bplain (pc' := 5) rfl dJ35_iterator_4 rfl (ihN rfl) rfl ?_
  refine bthr (pc' := 8) rfl dJ35_iterator_5 rfl (lkf0 q2065 lf_405) (trivial) (ihN rfl) rfl ?_
  refine bplain (pc' := 9) rfl dJ35_iterator_8 rfl (ihN rfl) rfl ?_
  refine bthr (pc' := 12) rfl dJ35_iterator_9 rfl (lkf0 q2064 lf_407) (trivial) (ihN rfl) rfl ?_
  refine bcall (pc' := 15) rfl dJ35_iterator_12 rfl (trivial) (lci mt_J39_init ⟨by decide, by decide⟩ mok_J39_init rfl rfl rfl ln_410 q2136 rfl (Or.inl q2135)) (ihN rfl) rfl ?_
  refine bret (pc' := 16) rfl dJ35_iterator_15 rfl (⟨_, rfl, Or.inl ⟨_, rfl⟩⟩) (ihN rfl) rfl ?_
  exact trivial
theorem tf_J35_iterator : ∀ x ∈ tb_J35_iterator, BOK mt 224 x.1 x.2 := tb_c mt_J35_iterator bf_J35_iterator_0 (tb_n)
theorem bf_J38_hasNext_0 : BOKt mt tJ38_hasNext 225 0 b_J38_hasNext_0 := by
  refine bplain (pc' := 1) rfl dJ38_hasNext_0 rfl (ihN rfl) rfl ?_
  refine bthr (pc' := 4) rfl dJ38_hasNext_1 rfl (lkf0 q2142 lf_419) (trivial) (ihN rfl) rfl ?_
  refine bjmp (tg := 11) (pc' := 7) rfl (by decide) (by decide) rfl dJ38_hasNext_4 rfl (ihN rfl) rfl ?_
  refine bplain (pc' := 8) rfl dJ38_hasNext_7 rfl (ihN rfl) rfl ?_
  refine bjmp (tg := 12) (pc' := 11) rfl (by decide) (by decide) rfl dJ38_hasNext_8 rfl (ihN rfl) rfl ?_
  exact trivial
theorem bf_J38_hasNext_11 : BOKt mt tJ38_hasNext 225 11 b_J38_hasNext_11 := by
  refine bplain (pc' := 12) rfl dJ38_hasNext_11 rfl (ihN rfl) rfl ?_
  exact bnop0 rfl (by decide)
theorem bf_J38_hasNext_12 : BOKt mt tJ38_hasNext 225 12 b_J38_hasNext_12 := by
  refine bnop1 ?_
  refine bret (pc' := 13) rfl dJ38_hasNext_12 rfl (Or.inr ⟨rfl, rfl⟩) (ihN rfl) rfl ?_
  exact trivial
theorem tf_J38_hasNext : ∀ x ∈ tb_J38_hasNext, BOK mt 225 x.1 x.2 := tb_c mt_J38_hasNext bf_J38_hasNext_0 (tb_c mt_J38_hasNext bf_J38_hasNext_11 (tb_c mt_J38_hasNext bf_J38_hasNext_12 (tb_n)))
theorem bf_J38_nextNode_0 : BOKt mt tJ38_nextNode 226 0 b_J38_nextNode_0 := by
  refine bplain (pc' := 1) rfl dJ38_nextNode_0 rfl (ihN rfl) rfl ?_
  refine bthr (pc' := 4) rfl dJ38_nextNode_1 rfl (lkf0 q2142 lf_419) (trivial) (ihN rfl) rfl ?_
  refine bplain (pc' := 5) rfl dJ38_nextNode_4 rfl (ihN rfl) rfl ?_
  refine bplain (pc' := 6) rfl dJ38_nextNode_5 rfl (ihN rfl) rfl ?_
  refine bthr (pc' := 9) rfl dJ38_nextNode_6 rfl (lkf0 q2146 lf_415) (trivial) (ihN rfl) rfl ?_
  refine bthr (pc' := 12) rfl dJ38_nextNode_9 rfl (lkf0 q210 lf_79) (trivial) (ihN rfl) rfl ?_
  refine bplain (pc' := 13) rfl dJ38_nextNode_12 rfl (ihN rfl) rfl ?_
  refine bthr (pc' := 16) rfl dJ38_nextNode_13 rfl (lkf0 q2144 lf_421) (trivial) (ihN rfl) rfl ?_
  refine bjmp (tg := 27) (pc' := 19) rfl (by decide) (by decide) rfl dJ38_nextNode_16 rfl (ihN rfl) rfl ?_
  refine bthr (pc' := 22) rfl dJ38_nextNode_19 rfl (trivial) (trivial) (ihN rfl) rfl ?_
  refine bplain (pc' := 23) rfl dJ38_nextNode_22 rfl (ihN rfl) rfl ?_
  refine bcall (pc' := 26) rfl dJ38_nextNode_23 rfl (trivial) (trivial) (ihN rfl) rfl ?_
  refine bplain (pc' := 27) rfl dJ38_nextNode_26 rfl (ihN rfl) rfl ?_
  exact trivial
theorem bf_J38_nextNode_27 : BOKt mt tJ38_nextNode 226 27 b_J38_nextNode_27 := by
  refine bplain (pc' := 28) rfl dJ38_nextNode_27 rfl (ihN rfl) rfl ?_
  refine bjmp (tg := 39) (pc' := 31) rfl (by decide) (by decide) rfl dJ38_nextNode_28 rfl (ihN rfl) rfl ?_
  refine bthr (pc' := 34) rfl dJ38_nextNode_31 rfl (trivial) (trivial) (ihN rfl) rfl ?_
  refine bplain (pc' := 35) rfl dJ38_nextNode_34 rfl (ihN rfl) rfl ?_
  refine bcall (pc' := 38) rfl dJ38_nextNode_35 rfl (trivial) (trivial) (ihN rfl) rfl ?_
  refine bplain (pc' := 39) rfl dJ38_nextNode_38 rfl (ihN rfl) rfl ?_
  exact trivial
theorem bf_J38_nextNode_39 : BOKt mt tJ38_nextNode 226 39 b_J38_nextNode_39 := by
  refine bplain (pc' := 40) rfl dJ38_nextNode_39 rfl (ihN rfl) rfl ?_
  refine bplain (pc' := 41) rfl dJ38_nextNode_40 rfl (ihN rfl) rfl ?_
  refine bobj (pc' := 44) rfl dJ38_nextNode_41 rfl (⟨lkf0 q2143 lf_423, lkp0 lp_424⟩) (ihN rfl) rfl ?_
  refine bplain (pc' := 45) rfl dJ38_nextNode_44 rfl (ihN rfl) rfl ?_
  refine bplain (pc' := 46) rfl dJ38_nextNode_45 rfl (ihN rfl) rfl ?_
  refine bthr (pc' := 49) rfl dJ38_nextNode_46 rfl (lkf0 q2145 lf_417) (trivial) (ihN rfl) rfl ?_
  refine bjmp (tg := 59) (pc' := 52) rfl (by decide) (by decide) rfl dJ38_nextNode_49 rfl (ihN rfl) rfl ?_
  refine bplain (pc' := 53) rfl dJ38_nextNode_52 rfl (ihN rfl) rfl ?_
  refine bthr (pc' := 56) rfl dJ38_nextNode_53 rfl (lkf0 q423 lf_67) (trivial) (ihN rfl) rfl ?_
  refine bjmp (tg := 63) (pc' := 59) rfl (by decide) (by decide) rfl dJ38_nextNode_56 rfl (ihN rfl) rfl ?_
  exact trivial
theorem bf_J38_nextNode_59 : BOKt mt tJ38_nextNode 226 59 b_J38_nextNode_59 := by
  refine bplain (pc' := 60) rfl dJ38_nextNode_59 rfl (ihN rfl) rfl ?_
  refine bthr (pc' := 63) rfl dJ38_nextNode_60 rfl (lkf0 q425 lf_65) (trivial) (ihN rfl) rfl ?_
  exact bnop0 rfl (by decide)
theorem bf_J38_nextNode_63 : BOKt mt tJ38_nextNode 226 63 b_J38_nextNode_63 := by
  refine bnop1 ?_
  refine bobj (pc' := 66) rfl dJ38_nextNode_63 rfl (⟨lkf0 q2142 lf_419, lkp0 lp_420⟩) (ihN rfl) rfl ?_
  refine bplain (pc' := 67) rfl dJ38_nextNode_66 rfl (ihN rfl) rfl ?_
  refine bret (pc' := 68) rfl dJ38_nextNode_67 rfl (⟨_, rfl, Or.inl ⟨_, rfl⟩⟩) (ihN rfl) rfl ?_
  exact trivial
theorem tf_J38_nextNode : ∀ x ∈ tb_J38_nextNode, BOK mt 226 x.1 x.2 := tb_c mt_J38_nextNode bf_J38_nextNode_0 (tb_c mt_J38_nextNode bf_J38_nextNode_27 (tb_c mt_J38_nextNode bf_J38_nextNode_39 (tb_c mt_J38_nextNode bf_J38_nextNode_59 (tb_c mt_J38_nextNode bf_J38_nextNode_63 (tb_n)))))
theorem bf_J39_next_0 : BOKt mt tJ39_next 227 0 b_J39_next_0 := by
  refine bplain (pc' := 1) rfl dJ39_next_0 rfl (ihN rfl) rfl ?_
  refine bcall (pc' := 4) rfl dJ39_next_1 rfl (trivial) (lcv (n := 0) rfl (pvc (lfv mt_J38_nextNode ⟨by decide, by decide⟩ mok_J38_nextNode ⟨by decide, by decide⟩ ⟨q2211, ln_425, Or.inr (Or.inr ⟨rfl, ⟨"java/util/LinkedHashMap$LinkedValueIterator", "nextNode", "()Ljava/util/LinkedHashMap$Entry;"⟩, "java/util/LinkedHashMap$LinkedHashIterator", q2207, q2208, lv_426, ln_425, q2210, Or.inl ⟨_, _, _, q2211, q2212⟩⟩)⟩) (trivial)) (Or.inl (by decide))) (ihN rfl) rfl ?_
  refine bthr (pc' := 7) rfl dJ39_next_4 rfl (lkf0 q439 lf_427) (trivial) (ihN rfl) rfl ?_
  refine bret (pc' := 8) rfl dJ39_next_7 rfl (⟨_, rfl, Or.inl ⟨_, rfl⟩⟩) (ihN rfl) rfl ?_
  exact trivial
theorem tf_J39_next : ∀ x ∈ tb_J39_next, BOK mt 227 x.1 x.2 := tb_c mt_J39_next bf_J39_next_0 (tb_n)
theorem bf_X0_nth_0 : BOKt mt tX0_nth 228 0 b_X0_nth_0 := by
  refine bplain (pc' := 1) rfl dX0_nth_0 rfl (ihN rfl) rfl ?_
  refine bplain (pc' := 2) rfl dX0_nth_1 rfl (ihN rfl) rfl ?_
  refine bplain (pc' := 3) rfl dX0_nth_2 rfl (ihN rfl) rfl ?_
  refine bcall (pc' := 6) rfl dX0_nth_3 rfl (trivial) (lcv (n := 0) rfl (pvc (lfv mt_J34_values ⟨by decide, by decide⟩ mok_J34_values ⟨by decide, by decide⟩ ⟨q2051, ln_428, Or.inl ⟨q2050, Or.inl q2052⟩⟩) (trivial)) (Or.inl (by decide))) (ihN rfl) rfl ?_
  refine bcall (pc' := 11) rfl dX0_nth_6 rfl (trivial) (lcf (n := 0) rfl (pvc (lff mt_J35_iterator ⟨by decide, by decide⟩ mok_J35_iterator ⟨by decide, by decide⟩ ⟨rfl, q2130, ⟨"java/util/Collection", "iterator", "()Ljava/util/Iterator;"⟩, q2073, List.mem_of_getElem? (i := 0) rfl, q2128, lv_429, ln_430⟩) (trivial))) (ihN rfl) rfl ?_
  refine bplain (pc' := 12) rfl dX0_nth_11 rfl (ihN rfl) rfl ?_
  exact bnop0 rfl (by decide)
theorem bf_X0_nth_12 : BOKt mt tX0_nth 228 12 b_X0_nth_12 := by
  refine bnop1 ?_
  refine bplain (pc' := 13) rfl dX0_nth_12 rfl (ihN rfl) rfl ?_
  refine bcall (pc' := 18) rfl dX0_nth_13 rfl (trivial) (lcf (n := 0) rfl (pvc (lff mt_J38_hasNext ⟨by decide, by decide⟩ mok_J38_hasNext ⟨by decide, by decide⟩ ⟨rfl, q2177, ⟨"java/util/Iterator", "hasNext", "()Z"⟩, q2159, List.mem_of_getElem? (i := 1) rfl, q2175, lv_431, ln_30⟩) (trivial))) (ihN rfl) rfl ?_
  refine bjmp (tg := 46) (pc' := 21) rfl (by decide) (by decide) rfl dX0_nth_18 rfl (ihN rfl) rfl ?_
  refine bplain (pc' := 22) rfl dX0_nth_21 rfl (ihN rfl) rfl ?_
  refine bcall (pc' := 27) rfl dX0_nth_22 rfl (trivial) (lcf (n := 0) rfl (pvc (lff mt_J39_next ⟨by decide, by decide⟩ mok_J39_next ⟨by decide, by decide⟩ ⟨rfl, q2204, ⟨"java/util/Iterator", "next", "()Ljava/lang/Object;"⟩, q2181, List.mem_of_getElem? (i := 2) rfl, q2202, lv_431, ln_266⟩) (trivial))) (ihN rfl) rfl ?_
  refine bthr (pc' := 30) rfl dX0_nth_27 rfl (lkc (nm := "StrideTurns$Tally") q2019 lg_397 lb_398) (Or.inl rfl) (ihN rfl) rfl ?_
  refine bplain (pc' := 32) rfl dX0_nth_30 rfl (ihN rfl) rfl ?_
  refine bplain (pc' := 33) rfl dX0_nth_32 rfl (ihN rfl) rfl ?_
  refine bplain (pc' := 34) rfl dX0_nth_33 rfl (ihN rfl) rfl ?_
  refine bjmp (tg := 40) (pc' := 37) rfl (by decide) (by decide) rfl dX0_nth_34 rfl (ihN rfl) rfl ?_
  refine bplain (pc' := 39) rfl dX0_nth_37 rfl (ihN rfl) rfl ?_
  refine bret (pc' := 40) rfl dX0_nth_39 rfl (⟨_, rfl, Or.inl ⟨_, rfl⟩⟩) (ihN rfl) rfl ?_
  exact trivial
theorem bf_X0_nth_40 : BOKt mt tX0_nth 228 40 b_X0_nth_40 := by
  refine bplain (pc' := 43) rfl dX0_nth_40 rfl (ihN rfl) rfl ?_
  refine bjmp (tg := 12) (pc' := 46) rfl (by decide) (by decide) rfl dX0_nth_43 rfl (ihN rfl) rfl ?_
  exact trivial
theorem bf_X0_nth_46 : BOKt mt tX0_nth 228 46 b_X0_nth_46 := by
  refine bplain (pc' := 47) rfl dX0_nth_46 rfl (ihN rfl) rfl ?_
  refine bret (pc' := 48) rfl dX0_nth_47 rfl (⟨_, rfl, Or.inl ⟨_, rfl⟩⟩) (ihN rfl) rfl ?_
  exact trivial
theorem tf_X0_nth : ∀ x ∈ tb_X0_nth, BOK mt 228 x.1 x.2 := tb_c mt_X0_nth bf_X0_nth_0 (tb_c mt_X0_nth bf_X0_nth_12 (tb_c mt_X0_nth bf_X0_nth_40 (tb_c mt_X0_nth bf_X0_nth_46 (tb_n))))
theorem bf_X0_kind_0 : BOKt mt tX0_kind 229 0 b_X0_kind_0 := by
  refine bplain (pc' := 1) rfl dX0_kind_0 rfl (ihN rfl) rfl ?_
  refine bplain (pc' := 2) rfl dX0_kind_1 rfl (ihN rfl) rfl ?_
  refine bcall (pc' := 5) rfl dX0_kind_2 rfl (trivial) (lcv (n := 1) rfl (pvc (lfv mt_X0_isStatement ⟨by decide, by decide⟩ mok_X0_isStatement ⟨by decide, by decide⟩ ⟨q1773, ln_222, Or.inl ⟨q1771, Or.inl qs16⟩⟩) (trivial)) (Or.inl (by decide))) (ihN rfl) rfl ?_
  refine bjmp (tg := 32) (pc' := 8) rfl (by decide) (by decide) rfl dX0_kind_5 rfl (ihN rfl) rfl ?_
  refine bplain (pc' := 9) rfl dX0_kind_8 rfl (ihN rfl) rfl ?_
  refine bcall (pc' := 12) rfl dX0_kind_9 rfl (trivial) (lcs (l := q1210) mt_X0_isRow ⟨by decide, by decide⟩ mok_X0_isRow rfl ln_222 (Or.inl q1209)) (ihN rfl) rfl ?_
  refine bjmp (tg := 32) (pc' := 15) rfl (by decide) (by decide) rfl dX0_kind_12 rfl (ihN rfl) rfl ?_
  refine bplain (pc' := 16) rfl dX0_kind_15 rfl (ihN rfl) rfl ?_
  refine bjmp (tg := 32) (pc' := 19) rfl (by decide) (by decide) rfl dX0_kind_16 rfl (ihN rfl) rfl ?_
  refine bplain (pc' := 21) rfl dX0_kind_19 rfl (ihN rfl) rfl ?_
  refine bplain (pc' := 22) rfl dX0_kind_21 rfl (ihN rfl) rfl ?_
  refine bplain (pc' := 23) rfl dX0_kind_22 rfl (ihN rfl) rfl ?_
  refine bobj (pc' := 26) rfl dX0_kind_23 rfl (lkq0 lc_377 q1897) (ihN rfl) rfl ?_
  refine bcall (pc' := 29) rfl dX0_kind_26 rfl (trivial) (lcs (l := q1214) mt_X0_in ⟨by decide, by decide⟩ mok_X0_in rfl ln_210 (Or.inl q1213)) (ihN rfl) rfl ?_
  refine bjmp (tg := 36) (pc' := 32) rfl (by decide) (by decide) rfl dX0_kind_29 rfl (ihN rfl) rfl ?_
  exact bnop0 rfl (by decide)
theorem bf_X0_kind_32 : BOKt mt tX0_kind 229 32 b_X0_kind_32 := by
  refine bnop1 ?_
  refine bobj (pc' := 35) rfl dX0_kind_32 rfl (lkl0 lc_251 q1902) (ihN rfl) rfl ?_
  refine bret (pc' := 36) rfl dX0_kind_35 rfl (Or.inl ⟨rfl, rfl⟩) (ihN rfl) rfl ?_
  exact trivial
theorem bf_X0_kind_36 : BOKt mt tX0_kind 229 36 b_X0_kind_36 := by
  refine bplain (pc' := 37) rfl dX0_kind_36 rfl (ihN rfl) rfl ?_
  refine bplain (pc' := 38) rfl dX0_kind_37 rfl (ihN rfl) rfl ?_
  refine bplain (pc' := 39) rfl dX0_kind_38 rfl (ihN rfl) rfl ?_
  refine bcall (pc' := 42) rfl dX0_kind_39 rfl (trivial) (lcv (n := 2) rfl (pvc (lfv mt_X0_kindsOf ⟨by decide, by decide⟩ mok_X0_kindsOf ⟨by decide, by decide⟩ ⟨q1981, ln_402, Or.inl ⟨q1979, Or.inl qs22⟩⟩) (trivial)) (Or.inl (by decide))) (ihN rfl) rfl ?_
  refine bplain (pc' := 43) rfl dX0_kind_42 rfl (ihN rfl) rfl ?_
  refine bcall (pc' := 46) rfl dX0_kind_43 rfl (trivial) (lcs (l := q2048) mt_X0_nth ⟨by decide, by decide⟩ mok_X0_nth rfl ln_432 (Or.inl q2047)) (ihN rfl) rfl ?_
  refine bplain (pc' := 48) rfl dX0_kind_46 rfl (ihN rfl) rfl ?_
  refine bplain (pc' := 50) rfl dX0_kind_48 rfl (ihN rfl) rfl ?_
  refine bjmp (tg := 57) (pc' := 53) rfl (by decide) (by decide) rfl dX0_kind_50 rfl (ihN rfl) rfl ?_
  refine bobj (pc' := 56) rfl dX0_kind_53 rfl (lkl0 lc_251 q1902) (ihN rfl) rfl ?_
  refine bret (pc' := 57) rfl dX0_kind_56 rfl (Or.inl ⟨rfl, rfl⟩) (ihN rfl) rfl ?_
  exact trivial
theorem bf_X0_kind_57 : BOKt mt tX0_kind 229 57 b_X0_kind_57 := by
  refine bplain (pc' := 59) rfl dX0_kind_57 rfl (ihN rfl) rfl ?_
  refine bplain (pc' := 60) rfl dX0_kind_59 rfl (ihN rfl) rfl ?_
  refine bjmp (tg := 71) (pc' := 63) rfl (by decide) (by decide) rfl dX0_kind_60 rfl (ihN rfl) rfl ?_
  refine bplain (pc' := 65) rfl dX0_kind_63 rfl (ihN rfl) rfl ?_
  refine bthr (pc' := 68) rfl dX0_kind_65 rfl (lkf1 (host := "StrideTurns") (by decide) q2027 lf_400) (trivial) (ihN rfl) rfl ?_
  refine bjmp (tg := 81) (pc' := 71) rfl (by decide) (by decide) rfl dX0_kind_68 rfl (ihN rfl) rfl ?_
  exact trivial
theorem bf_X0_kind_71 : BOKt mt tX0_kind 229 71 b_X0_kind_71 := by
  refine bplain (pc' := 73) rfl dX0_kind_71 rfl (ihN rfl) rfl ?_
  refine bthr (pc' := 76) rfl dX0_kind_73 rfl (lkf1 (host := "StrideTurns") (by decide) q2026 lf_395) (trivial) (ihN rfl) rfl ?_
  refine bplain (pc' := 78) rfl dX0_kind_76 rfl (ihN rfl) rfl ?_
  refine bcall (pc' := 81) rfl dX0_kind_78 rfl (trivial) (lcv (n := 1) rfl (pvc (lfv mt_X8_tells ⟨by decide, by decide⟩ mok_X8_tells ⟨by decide, by decide⟩ ⟨q1953, ln_225, Or.inl ⟨q1952, Or.inl q1954⟩⟩) (trivial)) (Or.inl (by decide))) (ihN rfl) rfl ?_
  exact bnop0 rfl (by decide)
theorem bf_X0_kind_81 : BOKt mt tX0_kind 229 81 b_X0_kind_81 := by
  refine bnop1 ?_
  refine bret (pc' := 82) rfl dX0_kind_81 rfl (Or.inl ⟨rfl, rfl⟩) (ihN rfl) rfl ?_
  exact trivial
theorem tf_X0_kind : ∀ x ∈ tb_X0_kind, BOK mt 229 x.1 x.2 := tb_c mt_X0_kind bf_X0_kind_0 (tb_c mt_X0_kind bf_X0_kind_32 (tb_c mt_X0_kind bf_X0_kind_36 (tb_c mt_X0_kind bf_X0_kind_57 (tb_c mt_X0_kind bf_X0_kind_71 (tb_c mt_X0_kind bf_X0_kind_81 (tb_n))))))
theorem bf_X3_kind_0 : BOKt mt tX3_kind 230 0 b_X3_kind_0 := by
  refine bplain (pc' := 1) rfl dX3_kind_0 rfl (ihN rfl) rfl ?_
  refine bplain (pc' := 2) rfl dX3_kind_1 rfl (ihN rfl) rfl ?_
  refine bcall (pc' := 5) rfl dX3_kind_2 rfl (trivial) (lcv (n := 1) rfl (pvc (lfv mt_X3_isStatement ⟨by decide, by decide⟩ mok_X3_isStatement ⟨by decide, by decide⟩ ⟨q2822, ln_222, Or.inl ⟨q2820, Or.inl qs69⟩⟩) (trivial)) (Or.inl (by decide))) (ihN rfl) rfl ?_
  refine bjmp (tg := 25) (pc' := 8) rfl (by decide) (by decide) rfl dX3_kind_5 rfl (ihN rfl) rfl ?_
  refine bplain (pc' := 9) rfl dX3_kind_8 rfl (ihN rfl) rfl ?_
  refine bcall (pc' := 12) rfl dX3_kind_9 rfl (trivial) (lcs (l := q2744) mt_X3_isRow ⟨by decide, by decide⟩ mok_X3_isRow rfl ln_222 (Or.inl q2743)) (ihN rfl) rfl ?_
  refine bjmp (tg := 25) (pc' := 15) rfl (by decide) (by decide) rfl dX3_kind_12 rfl (ihN rfl) rfl ?_
  refine bplain (pc' := 17) rfl dX3_kind_15 rfl (ihN rfl) rfl ?_
  refine bplain (pc' := 18) rfl dX3_kind_17 rfl (ihN rfl) rfl ?_
  refine bplain (pc' := 19) rfl dX3_kind_18 rfl (ihN rfl) rfl ?_
  refine bcall (pc' := 22) rfl dX3_kind_19 rfl (trivial) (lcs (l := q2747) mt_X3_in ⟨by decide, by decide⟩ mok_X3_in rfl ln_226 (Or.inl q2746)) (ihN rfl) rfl ?_
  refine bjmp (tg := 28) (pc' := 25) rfl (by decide) (by decide) rfl dX3_kind_22 rfl (ihN rfl) rfl ?_
  exact bnop0 rfl (by decide)
theorem bf_X3_kind_25 : BOKt mt tX3_kind 230 25 b_X3_kind_25 := by
  refine bnop1 ?_
  refine bobj (pc' := 27) rfl dX3_kind_25 rfl (lkl0 lc_251 q2783) (ihN rfl) rfl ?_
  refine bret (pc' := 28) rfl dX3_kind_27 rfl (Or.inl ⟨rfl, rfl⟩) (ihN rfl) rfl ?_
  exact trivial
theorem bf_X3_kind_28 : BOKt mt tX3_kind 230 28 b_X3_kind_28 := by
  refine bplain (pc' := 29) rfl dX3_kind_28 rfl (ihN rfl) rfl ?_
  refine bplain (pc' := 30) rfl dX3_kind_29 rfl (ihN rfl) rfl ?_
  refine bplain (pc' := 31) rfl dX3_kind_30 rfl (ihN rfl) rfl ?_
  refine bplain (pc' := 32) rfl dX3_kind_31 rfl (ihN rfl) rfl ?_
  refine bplain (pc' := 33) rfl dX3_kind_32 rfl (ihN rfl) rfl ?_
  refine bcall (pc' := 36) rfl dX3_kind_33 rfl (trivial) (lcv (n := 2) rfl (pvc (lfv mt_X3_findsKinds ⟨by decide, by decide⟩ mok_X3_findsKinds ⟨by decide, by decide⟩ ⟨q2921, ln_252, Or.inl ⟨q2919, Or.inl qs84⟩⟩) (trivial)) (Or.inl (by decide))) (ihN rfl) rfl ?_
  refine bplain (pc' := 37) rfl dX3_kind_36 rfl (ihN rfl) rfl ?_
  refine bplain (pc' := 38) rfl dX3_kind_37 rfl (ihN rfl) rfl ?_
  refine bcall (pc' := 41) rfl dX3_kind_38 rfl (trivial) (lcs (l := q2747) mt_X3_in ⟨by decide, by decide⟩ mok_X3_in rfl ln_226 (Or.inl q2746)) (ihN rfl) rfl ?_
  refine bjmp (tg := 58) (pc' := 44) rfl (by decide) (by decide) rfl dX3_kind_41 rfl (ihN rfl) rfl ?_
  refine bplain (pc' := 45) rfl dX3_kind_44 rfl (ihN rfl) rfl ?_
  refine bthr (pc' := 48) rfl dX3_kind_45 rfl (lkf0 q2618 lf_177) (trivial) (ihN rfl) rfl ?_
  refine bplain (pc' := 49) rfl dX3_kind_48 rfl (ihN rfl) rfl ?_
  refine bplain (pc' := 50) rfl dX3_kind_49 rfl (ihN rfl) rfl ?_
  refine bplain (pc' := 51) rfl dX3_kind_50 rfl (ihN rfl) rfl ?_
  refine bplain (pc' := 53) rfl dX3_kind_51 rfl (ihN rfl) rfl ?_
  refine bplain (pc' := 54) rfl dX3_kind_53 rfl (ihN rfl) rfl ?_
  refine bplain (pc' := 55) rfl dX3_kind_54 rfl (ihN rfl) rfl ?_
  refine bjmp (tg := 60) (pc' := 58) rfl (by decide) (by decide) rfl dX3_kind_55 rfl (ihN rfl) rfl ?_
  exact trivial
theorem bf_X3_kind_58 : BOKt mt tX3_kind 230 58 b_X3_kind_58 := by
  refine bobj (pc' := 60) rfl dX3_kind_58 rfl (lkl0 lc_251 q2783) (ihN rfl) rfl ?_
  exact bnop0 rfl (by decide)
theorem bf_X3_kind_60 : BOKt mt tX3_kind 230 60 b_X3_kind_60 := by
  refine bnop1 ?_
  refine bret (pc' := 61) rfl dX3_kind_60 rfl (Or.inl ⟨rfl, rfl⟩) (ihN rfl) rfl ?_
  exact trivial
theorem tf_X3_kind : ∀ x ∈ tb_X3_kind, BOK mt 230 x.1 x.2 := tb_c mt_X3_kind bf_X3_kind_0 (tb_c mt_X3_kind bf_X3_kind_25 (tb_c mt_X3_kind bf_X3_kind_28 (tb_c mt_X3_kind bf_X3_kind_58 (tb_c mt_X3_kind bf_X3_kind_60 (tb_n)))))
theorem bf_X0_isSet_0 : BOKt mt tX0_isSet 231 0 b_X0_isSet_0 := by
  refine bplain (pc' := 1) rfl dX0_isSet_0 rfl (ihN rfl) rfl ?_
  refine bplain (pc' := 2) rfl dX0_isSet_1 rfl (ihN rfl) rfl ?_
  refine bplain (pc' := 3) rfl dX0_isSet_2 rfl (ihN rfl) rfl ?_
  refine bobj (pc' := 6) rfl dX0_isSet_3 rfl (lkq0 lc_377 q1897) (ihN rfl) rfl ?_
  refine bcall (pc' := 9) rfl dX0_isSet_6 rfl (trivial) (lcs (l := q1214) mt_X0_in ⟨by decide, by decide⟩ mok_X0_in rfl ln_210 (Or.inl q1213)) (ihN rfl) rfl ?_
  refine bjmp (tg := 36) (pc' := 12) rfl (by decide) (by decide) rfl dX0_isSet_9 rfl (ihN rfl) rfl ?_
  refine bplain (pc' := 13) rfl dX0_isSet_12 rfl (ihN rfl) rfl ?_
  refine bcall (pc' := 16) rfl dX0_isSet_13 rfl (trivial) (lcs (l := q1210) mt_X0_isRow ⟨by decide, by decide⟩ mok_X0_isRow rfl ln_222 (Or.inl q1209)) (ihN rfl) rfl ?_
  refine bjmp (tg := 36) (pc' := 19) rfl (by decide) (by decide) rfl dX0_isSet_16 rfl (ihN rfl) rfl ?_
  refine bplain (pc' := 20) rfl dX0_isSet_19 rfl (ihN rfl) rfl ?_
  refine bplain (pc' := 21) rfl dX0_isSet_20 rfl (ihN rfl) rfl ?_
  refine bjmp (tg := 32) (pc' := 24) rfl (by decide) (by decide) rfl dX0_isSet_21 rfl (ihN rfl) rfl ?_
  refine bplain (pc' := 25) rfl dX0_isSet_24 rfl (ihN rfl) rfl ?_
  refine bplain (pc' := 26) rfl dX0_isSet_25 rfl (ihN rfl) rfl ?_
  refine bcall (pc' := 29) rfl dX0_isSet_26 rfl (trivial) (lcv (n := 1) rfl (pvc (lfv mt_X0_isTurn ⟨by decide, by decide⟩ mok_X0_isTurn ⟨by decide, by decide⟩ ⟨q1917, ln_222, Or.inl ⟨q1915, Or.inl qs20⟩⟩) (trivial)) (Or.inl (by decide))) (ihN rfl) rfl ?_
  refine bjmp (tg := 36) (pc' := 32) rfl (by decide) (by decide) rfl dX0_isSet_29 rfl (ihN rfl) rfl ?_
  exact bnop0 rfl (by decide)
theorem bf_X0_isSet_32 : BOKt mt tX0_isSet 231 32 b_X0_isSet_32 := by
  refine bnop1 ?_
  refine bplain (pc' := 33) rfl dX0_isSet_32 rfl (ihN rfl) rfl ?_
  refine bjmp (tg := 37) (pc' := 36) rfl (by decide) (by decide) rfl dX0_isSet_33 rfl (ihN rfl) rfl ?_
  exact trivial
theorem bf_X0_isSet_36 : BOKt mt tX0_isSet 231 36 b_X0_isSet_36 := by
  refine bnop1 ?_
  refine bplain (pc' := 37) rfl dX0_isSet_36 rfl (ihN rfl) rfl ?_
  exact bnop0 rfl (by decide)
theorem bf_X0_isSet_37 : BOKt mt tX0_isSet 231 37 b_X0_isSet_37 := by
  refine bnop1 ?_
  refine bret (pc' := 38) rfl dX0_isSet_37 rfl (Or.inr ⟨rfl, rfl⟩) (ihN rfl) rfl ?_
  exact trivial
theorem tf_X0_isSet : ∀ x ∈ tb_X0_isSet, BOK mt 231 x.1 x.2 := tb_c mt_X0_isSet bf_X0_isSet_0 (tb_c mt_X0_isSet bf_X0_isSet_32 (tb_c mt_X0_isSet bf_X0_isSet_36 (tb_c mt_X0_isSet bf_X0_isSet_37 (tb_n))))
theorem bf_X0_fits_0 : BOKt mt tX0_fits 232 0 b_X0_fits_0 := by
  refine bplain (pc' := 1) rfl dX0_fits_0 rfl (ihN rfl) rfl ?_
  refine bthr (pc' := 4) rfl dX0_fits_1 rfl (lkf1 (host := "StrideTurns") (by decide) q1669 lf_310) (trivial) (ihN rfl) rfl ?_
  refine bplain (pc' := 5) rfl dX0_fits_4 rfl (ihN rfl) rfl ?_
  refine bjmp (tg := 10) (pc' := 8) rfl (by decide) (by decide) rfl dX0_fits_5 rfl (ihN rfl) rfl ?_
  refine bplain (pc' := 9) rfl dX0_fits_8 rfl (ihN rfl) rfl ?_
  refine bret (pc' := 10) rfl dX0_fits_9 rfl (Or.inl ⟨rfl, rfl⟩) (ihN rfl) rfl ?_
  exact trivial
theorem bf_X0_fits_10 : BOKt mt tX0_fits 232 10 b_X0_fits_10 := by
  refine bplain (pc' := 11) rfl dX0_fits_10 rfl (ihN rfl) rfl ?_
  refine bplain (pc' := 12) rfl dX0_fits_11 rfl (ihN rfl) rfl ?_
  refine bthr (pc' := 15) rfl dX0_fits_12 rfl (lkf1 (host := "StrideTurns") (by decide) q1669 lf_310) (trivial) (ihN rfl) rfl ?_
  refine bcall (pc' := 18) rfl dX0_fits_15 rfl (trivial) (lcv (n := 1) rfl (pvc (lfv mt_X0_numbers ⟨by decide, by decide⟩ mok_X0_numbers ⟨by decide, by decide⟩ ⟨q1855, ln_376, Or.inl ⟨q2233, Or.inl qs17⟩⟩) (trivial)) (Or.inl (by decide))) (ihN rfl) rfl ?_
  refine bplain (pc' := 20) rfl dX0_fits_18 rfl (ihN rfl) rfl ?_
  refine bplain (pc' := 21) rfl dX0_fits_20 rfl (ihN rfl) rfl ?_
  refine bthr (pc' := 24) rfl dX0_fits_21 rfl (lkf1 (host := "StrideTurns") (by decide) q1680 lf_308) (trivial) (ihN rfl) rfl ?_
  refine bplain (pc' := 25) rfl dX0_fits_24 rfl (ihN rfl) rfl ?_
  refine bplain (pc' := 26) rfl dX0_fits_25 rfl (ihN rfl) rfl ?_
  refine bcall (pc' := 31) rfl dX0_fits_26 rfl (trivial) (lcl (n := 2) (j := 2) rfl q2235 ln_252 rfl (plc (lfl (q := 31) rfl ⟨by decide, by decide⟩ rfl mt_X7_lambda_new_0 ⟨by decide, by decide⟩ mok_X7_lambda_new_0 ll_388 ll_389) (plc (lfl (q := 35) rfl ⟨by decide, by decide⟩ rfl mt_X7_lambda_moves_1 ⟨by decide, by decide⟩ mok_X7_lambda_moves_1 ll_386 ll_387) (trivial)))) (ihN rfl) rfl ?_
  refine bplain (pc' := 33) rfl dX0_fits_31 rfl (ihN rfl) rfl ?_
  refine bplain (pc' := 35) rfl dX0_fits_33 rfl (ihN rfl) rfl ?_
  refine bjmp (tg := 48) (pc' := 38) rfl (by decide) (by decide) rfl dX0_fits_35 rfl (ihN rfl) rfl ?_
  refine bplain (pc' := 40) rfl dX0_fits_38 rfl (ihN rfl) rfl ?_
  refine bplain (pc' := 42) rfl dX0_fits_40 rfl (ihN rfl) rfl ?_
  refine bcall (pc' := 45) rfl dX0_fits_42 rfl (trivial) (lcv (n := 1) rfl (pvc (lfv mt_X4_has ⟨by decide, by decide⟩ mok_X4_has ⟨by decide, by decide⟩ ⟨q1889, ln_222, Or.inl ⟨q2236, Or.inl q1890⟩⟩) (trivial)) (Or.inl (by decide))) (ihN rfl) rfl ?_
  refine bjmp (tg := 50) (pc' := 48) rfl (by decide) (by decide) rfl dX0_fits_45 rfl (ihN rfl) rfl ?_
  exact bnop0 rfl (by decide)
theorem bf_X0_fits_48 : BOKt mt tX0_fits 232 48 b_X0_fits_48 := by
  refine bnop1 ?_
  refine bplain (pc' := 49) rfl dX0_fits_48 rfl (ihN rfl) rfl ?_
  refine bret (pc' := 50) rfl dX0_fits_49 rfl (Or.inl ⟨rfl, rfl⟩) (ihN rfl) rfl ?_
  exact trivial
theorem bf_X0_fits_50 : BOKt mt tX0_fits 232 50 b_X0_fits_50 := by
  refine bplain (pc' := 51) rfl dX0_fits_50 rfl (ihN rfl) rfl ?_
  refine bthr (pc' := 54) rfl dX0_fits_51 rfl (lkf1 (host := "StrideTurns") (by decide) q1676 lf_347) (trivial) (ihN rfl) rfl ?_
  refine bjmp (tg := 61) (pc' := 57) rfl (by decide) (by decide) rfl dX0_fits_54 rfl (ihN rfl) rfl ?_
  refine bplain (pc' := 58) rfl dX0_fits_57 rfl (ihN rfl) rfl ?_
  refine bjmp (tg := 98) (pc' := 61) rfl (by decide) (by decide) rfl dX0_fits_58 rfl (ihN rfl) rfl ?_
  exact trivial
theorem bf_X0_fits_61 : BOKt mt tX0_fits 232 61 b_X0_fits_61 := by
  refine bplain (pc' := 62) rfl dX0_fits_61 rfl (ihN rfl) rfl ?_
  refine bthr (pc' := 65) rfl dX0_fits_62 rfl (lkf1 (host := "StrideTurns") (by decide) q1676 lf_347) (trivial) (ihN rfl) rfl ?_
  refine bjmp (tg := 88) (pc' := 68) rfl (by decide) (by decide) rfl dX0_fits_65 rfl (ihN rfl) rfl ?_
  refine bplain (pc' := 70) rfl dX0_fits_68 rfl (ihN rfl) rfl ?_
  refine bthr (pc' := 73) rfl dX0_fits_70 rfl (lkf1 (host := "StrideTurns") (by decide) q1231 lf_216) (trivial) (ihN rfl) rfl ?_
  refine bplain (pc' := 74) rfl dX0_fits_73 rfl (ihN rfl) rfl ?_
  refine bplain (pc' := 75) rfl dX0_fits_74 rfl (ihN rfl) rfl ?_
  refine bplain (pc' := 77) rfl dX0_fits_75 rfl (ihN rfl) rfl ?_
  refine bplain (pc' := 78) rfl dX0_fits_77 rfl (ihN rfl) rfl ?_
  refine bplain (pc' := 79) rfl dX0_fits_78 rfl (ihN rfl) rfl ?_
  refine bthr (pc' := 82) rfl dX0_fits_79 rfl (lkf1 (host := "StrideTurns") (by decide) q1676 lf_347) (trivial) (ihN rfl) rfl ?_
  refine bplain (pc' := 83) rfl dX0_fits_82 rfl (ihN rfl) rfl ?_
  refine bplain (pc' := 84) rfl dX0_fits_83 rfl (ihN rfl) rfl ?_
  refine bplain (pc' := 85) rfl dX0_fits_84 rfl (ihN rfl) rfl ?_
  refine bjmp (tg := 98) (pc' := 88) rfl (by decide) (by decide) rfl dX0_fits_85 rfl (ihN rfl) rfl ?_
  exact trivial
theorem bf_X0_fits_88 : BOKt mt tX0_fits 232 88 b_X0_fits_88 := by
  refine bplain (pc' := 90) rfl dX0_fits_88 rfl (ihN rfl) rfl ?_
  refine bplain (pc' := 91) rfl dX0_fits_90 rfl (ihN rfl) rfl ?_
  refine bthr (pc' := 94) rfl dX0_fits_91 rfl (lkf1 (host := "StrideTurns") (by decide) q1676 lf_347) (trivial) (ihN rfl) rfl ?_
  refine bplain (pc' := 95) rfl dX0_fits_94 rfl (ihN rfl) rfl ?_
  refine bplain (pc' := 96) rfl dX0_fits_95 rfl (ihN rfl) rfl ?_
  refine bplain (pc' := 97) rfl dX0_fits_96 rfl (ihN rfl) rfl ?_
  refine bplain (pc' := 98) rfl dX0_fits_97 rfl (ihN rfl) rfl ?_
  exact bnop0 rfl (by decide)
theorem bf_X0_fits_98 : BOKt mt tX0_fits 232 98 b_X0_fits_98 := by
  refine bnop1 ?_
  refine bplain (pc' := 100) rfl dX0_fits_98 rfl (ihN rfl) rfl ?_
  refine bplain (pc' := 102) rfl dX0_fits_100 rfl (ihN rfl) rfl ?_
  refine bplain (pc' := 103) rfl dX0_fits_102 rfl (ihN rfl) rfl ?_
  refine bcall (pc' := 106) rfl dX0_fits_103 rfl (trivial) (lcs (l := q549) mt_J8_min ⟨by decide, by decide⟩ mok_J8_min rfl ln_252 (Or.inl q2237)) (ihN rfl) rfl ?_
  refine bret (pc' := 107) rfl dX0_fits_106 rfl (Or.inl ⟨rfl, rfl⟩) (ihN rfl) rfl ?_
  exact trivial
theorem tf_X0_fits : ∀ x ∈ tb_X0_fits, BOK mt 232 x.1 x.2 := tb_c mt_X0_fits bf_X0_fits_0 (tb_c mt_X0_fits bf_X0_fits_10 (tb_c mt_X0_fits bf_X0_fits_48 (tb_c mt_X0_fits bf_X0_fits_50 (tb_c mt_X0_fits bf_X0_fits_61 (tb_c mt_X0_fits bf_X0_fits_88 (tb_c mt_X0_fits bf_X0_fits_98 (tb_n)))))))
theorem bf_X0_setAt_0 : BOKt mt tX0_setAt 233 0 b_X0_setAt_0 := by
  refine bplain (pc' := 1) rfl dX0_setAt_0 rfl (ihN rfl) rfl ?_
  refine bplain (pc' := 3) rfl dX0_setAt_1 rfl (ihN rfl) rfl ?_
  refine bplain (pc' := 4) rfl dX0_setAt_3 rfl (ihN rfl) rfl ?_
  refine bplain (pc' := 5) rfl dX0_setAt_4 rfl (ihN rfl) rfl ?_
  refine bplain (pc' := 6) rfl dX0_setAt_5 rfl (ihN rfl) rfl ?_
  refine bplain (pc' := 8) rfl dX0_setAt_6 rfl (ihN rfl) rfl ?_
  refine bplain (pc' := 9) rfl dX0_setAt_8 rfl (ihN rfl) rfl ?_
  refine bplain (pc' := 10) rfl dX0_setAt_9 rfl (ihN rfl) rfl ?_
  refine bplain (pc' := 11) rfl dX0_setAt_10 rfl (ihN rfl) rfl ?_
  refine bret (pc' := 12) rfl dX0_setAt_11 rfl (Or.inl ⟨rfl, rfl⟩) (ihN rfl) rfl ?_
  exact trivial
theorem tf_X0_setAt : ∀ x ∈ tb_X0_setAt, BOK mt 233 x.1 x.2 := tb_c mt_X0_setAt bf_X0_setAt_0 (tb_n)
theorem bf_X0_cellsOf_0 : BOKt mt tX0_cellsOf 234 0 b_X0_cellsOf_0 := by
  refine bplain (pc' := 1) rfl dX0_cellsOf_0 rfl (ihN rfl) rfl ?_
  refine bplain (pc' := 3) rfl dX0_cellsOf_1 rfl (ihN rfl) rfl ?_
  refine bplain (pc' := 4) rfl dX0_cellsOf_3 rfl (ihN rfl) rfl ?_
  refine bplain (pc' := 6) rfl dX0_cellsOf_4 rfl (ihN rfl) rfl ?_
  exact bnop0 rfl (by decide)
theorem bf_X0_cellsOf_6 : BOKt mt tX0_cellsOf 234 6 b_X0_cellsOf_6 := by
  refine bnop1 ?_
  refine bplain (pc' := 8) rfl dX0_cellsOf_6 rfl (ihN rfl) rfl ?_
  refine bplain (pc' := 9) rfl dX0_cellsOf_8 rfl (ihN rfl) rfl ?_
  refine bjmp (tg := 37) (pc' := 12) rfl (by decide) (by decide) rfl dX0_cellsOf_9 rfl (ihN rfl) rfl ?_
  refine bplain (pc' := 14) rfl dX0_cellsOf_12 rfl (ihN rfl) rfl ?_
  refine bplain (pc' := 15) rfl dX0_cellsOf_14 rfl (ihN rfl) rfl ?_
  refine bplain (pc' := 16) rfl dX0_cellsOf_15 rfl (ihN rfl) rfl ?_
  refine bthr (pc' := 19) rfl dX0_cellsOf_16 rfl (lkf1 (host := "StrideTurns") (by decide) q1680 lf_308) (trivial) (ihN rfl) rfl ?_
  refine bplain (pc' := 20) rfl dX0_cellsOf_19 rfl (ihN rfl) rfl ?_
  refine bplain (pc' := 22) rfl dX0_cellsOf_20 rfl (ihN rfl) rfl ?_
  refine bcall (pc' := 27) rfl dX0_cellsOf_22 rfl (trivial) (lcl (n := 2) (j := 2) rfl q2235 ln_252 rfl (plc (lfl (q := 31) rfl ⟨by decide, by decide⟩ rfl mt_X7_lambda_new_0 ⟨by decide, by decide⟩ mok_X7_lambda_new_0 ll_388 ll_389) (plc (lfl (q := 35) rfl ⟨by decide, by decide⟩ rfl mt_X7_lambda_moves_1 ⟨by decide, by decide⟩ mok_X7_lambda_moves_1 ll_386 ll_387) (trivial)))) (ihN rfl) rfl ?_
  refine bplain (pc' := 28) rfl dX0_cellsOf_27 rfl (ihN rfl) rfl ?_
  refine bplain (pc' := 29) rfl dX0_cellsOf_28 rfl (ihN rfl) rfl ?_
  refine bplain (pc' := 31) rfl dX0_cellsOf_29 rfl (ihN rfl) rfl ?_
  refine bplain (pc' := 34) rfl dX0_cellsOf_31 rfl (ihN rfl) rfl ?_
  refine bjmp (tg := 6) (pc' := 37) rfl (by decide) (by decide) rfl dX0_cellsOf_34 rfl (ihN rfl) rfl ?_
  exact trivial
theorem bf_X0_cellsOf_37 : BOKt mt tX0_cellsOf 234 37 b_X0_cellsOf_37 := by
  refine bplain (pc' := 39) rfl dX0_cellsOf_37 rfl (ihN rfl) rfl ?_
  refine bret (pc' := 40) rfl dX0_cellsOf_39 rfl (rfl) (ihN rfl) rfl ?_
  exact trivial
theorem tf_X0_cellsOf : ∀ x ∈ tb_X0_cellsOf, BOK mt 234 x.1 x.2 := tb_c mt_X0_cellsOf bf_X0_cellsOf_0 (tb_c mt_X0_cellsOf bf_X0_cellsOf_6 (tb_c mt_X0_cellsOf bf_X0_cellsOf_37 (tb_n)))
theorem bf_X1_isFirm_0 : BOKt mt tX1_isFirm 235 0 b_X1_isFirm_0 := by
  refine bplain (pc' := 1) rfl dX1_isFirm_0 rfl (ihN rfl) rfl ?_
  refine bthr (pc' := 4) rfl dX1_isFirm_1 rfl (lkf0 q250 lf_3) (trivial) (ihN rfl) rfl ?_
  refine bplain (pc' := 6) rfl dX1_isFirm_4 rfl (ihN rfl) rfl ?_
  refine bjmp (tg := 13) (pc' := 9) rfl (by decide) (by decide) rfl dX1_isFirm_6 rfl (ihN rfl) rfl ?_
  refine bplain (pc' := 10) rfl dX1_isFirm_9 rfl (ihN rfl) rfl ?_
  refine bjmp (tg := 14) (pc' := 13) rfl (by decide) (by decide) rfl dX1_isFirm_10 rfl (ihN rfl) rfl ?_
  exact trivial
theorem bf_X1_isFirm_13 : BOKt mt tX1_isFirm 235 13 b_X1_isFirm_13 := by
  refine bplain (pc' := 14) rfl dX1_isFirm_13 rfl (ihN rfl) rfl ?_
  exact bnop0 rfl (by decide)
theorem bf_X1_isFirm_14 : BOKt mt tX1_isFirm 235 14 b_X1_isFirm_14 := by
  refine bnop1 ?_
  refine bret (pc' := 15) rfl dX1_isFirm_14 rfl (Or.inr ⟨rfl, rfl⟩) (ihN rfl) rfl ?_
  exact trivial
theorem tf_X1_isFirm : ∀ x ∈ tb_X1_isFirm, BOK mt 235 x.1 x.2 := tb_c mt_X1_isFirm bf_X1_isFirm_0 (tb_c mt_X1_isFirm bf_X1_isFirm_13 (tb_c mt_X1_isFirm bf_X1_isFirm_14 (tb_n)))
theorem bf_X0_isOwn_0 : BOKt mt tX0_isOwn 236 0 b_X0_isOwn_0 := by
  refine bplain (pc' := 1) rfl dX0_isOwn_0 rfl (ihN rfl) rfl ?_
  refine bplain (pc' := 2) rfl dX0_isOwn_1 rfl (ihN rfl) rfl ?_
  refine bcall (pc' := 5) rfl dX0_isOwn_2 rfl (trivial) (lcv (n := 1) rfl (pvc (lfv mt_X6_at ⟨by decide, by decide⟩ mok_X6_at ⟨by decide, by decide⟩ ⟨q1785, ln_342, Or.inl ⟨q1784, Or.inl q1786⟩⟩) (trivial)) (Or.inl (by decide))) (ihN rfl) rfl ?_
  refine bplain (pc' := 7) rfl dX0_isOwn_5 rfl (ihN rfl) rfl ?_
  refine bplain (pc' := 8) rfl dX0_isOwn_7 rfl (ihN rfl) rfl ?_
  refine bplain (pc' := 10) rfl dX0_isOwn_8 rfl (ihN rfl) rfl ?_
  refine bthr (pc' := 13) rfl dX0_isOwn_10 rfl (lkf1 (host := "StrideTurns") (by decide) q1680 lf_308) (trivial) (ihN rfl) rfl ?_
  refine bplain (pc' := 14) rfl dX0_isOwn_13 rfl (ihN rfl) rfl ?_
  refine bplain (pc' := 15) rfl dX0_isOwn_14 rfl (ihN rfl) rfl ?_
  refine bcall (pc' := 20) rfl dX0_isOwn_15 rfl (trivial) (lcl (n := 2) (j := 2) rfl q2235 ln_252 rfl (plc (lfl (q := 31) rfl ⟨by decide, by decide⟩ rfl mt_X7_lambda_new_0 ⟨by decide, by decide⟩ mok_X7_lambda_new_0 ll_388 ll_389) (plc (lfl (q := 35) rfl ⟨by decide, by decide⟩ rfl mt_X7_lambda_moves_1 ⟨by decide, by decide⟩ mok_X7_lambda_moves_1 ll_386 ll_387) (trivial)))) (ihN rfl) rfl ?_
  refine bplain (pc' := 21) rfl dX0_isOwn_20 rfl (ihN rfl) rfl ?_
  refine bplain (pc' := 23) rfl dX0_isOwn_21 rfl (ihN rfl) rfl ?_
  refine bplain (pc' := 25) rfl dX0_isOwn_23 rfl (ihN rfl) rfl ?_
  refine bthr (pc' := 28) rfl dX0_isOwn_25 rfl (lkf1 (host := "StrideTurns") (by decide) q1676 lf_347) (trivial) (ihN rfl) rfl ?_
  refine bjmp (tg := 46) (pc' := 31) rfl (by decide) (by decide) rfl dX0_isOwn_28 rfl (ihN rfl) rfl ?_
  refine bplain (pc' := 33) rfl dX0_isOwn_31 rfl (ihN rfl) rfl ?_
  refine bjmp (tg := 44) (pc' := 36) rfl (by decide) (by decide) rfl dX0_isOwn_33 rfl (ihN rfl) rfl ?_
  refine bplain (pc' := 37) rfl dX0_isOwn_36 rfl (ihN rfl) rfl ?_
  refine bjmp (tg := 44) (pc' := 40) rfl (by decide) (by decide) rfl dX0_isOwn_37 rfl (ihN rfl) rfl ?_
  refine bplain (pc' := 41) rfl dX0_isOwn_40 rfl (ihN rfl) rfl ?_
  refine bjmp (tg := 45) (pc' := 44) rfl (by decide) (by decide) rfl dX0_isOwn_41 rfl (ihN rfl) rfl ?_
  exact trivial
theorem bf_X0_isOwn_44 : BOKt mt tX0_isOwn 236 44 b_X0_isOwn_44 := by
  refine bnop1 ?_
  refine bplain (pc' := 45) rfl dX0_isOwn_44 rfl (ihN rfl) rfl ?_
  exact bnop0 rfl (by decide)
theorem bf_X0_isOwn_45 : BOKt mt tX0_isOwn 236 45 b_X0_isOwn_45 := by
  refine bnop1 ?_
  refine bret (pc' := 46) rfl dX0_isOwn_45 rfl (Or.inr ⟨rfl, rfl⟩) (ihN rfl) rfl ?_
  exact trivial
theorem bf_X0_isOwn_46 : BOKt mt tX0_isOwn 236 46 b_X0_isOwn_46 := by
  refine bplain (pc' := 48) rfl dX0_isOwn_46 rfl (ihN rfl) rfl ?_
  refine bplain (pc' := 50) rfl dX0_isOwn_48 rfl (ihN rfl) rfl ?_
  refine bthr (pc' := 53) rfl dX0_isOwn_50 rfl (lkf1 (host := "StrideTurns") (by decide) q1676 lf_347) (trivial) (ihN rfl) rfl ?_
  refine bplain (pc' := 54) rfl dX0_isOwn_53 rfl (ihN rfl) rfl ?_
  refine bjmp (tg := 81) (pc' := 57) rfl (by decide) (by decide) rfl dX0_isOwn_54 rfl (ihN rfl) rfl ?_
  refine bplain (pc' := 59) rfl dX0_isOwn_57 rfl (ihN rfl) rfl ?_
  refine bplain (pc' := 61) rfl dX0_isOwn_59 rfl (ihN rfl) rfl ?_
  refine bthr (pc' := 64) rfl dX0_isOwn_61 rfl (lkf1 (host := "StrideTurns") (by decide) q1676 lf_347) (trivial) (ihN rfl) rfl ?_
  refine bplain (pc' := 65) rfl dX0_isOwn_64 rfl (ihN rfl) rfl ?_
  refine bplain (pc' := 66) rfl dX0_isOwn_65 rfl (ihN rfl) rfl ?_
  refine bplain (pc' := 67) rfl dX0_isOwn_66 rfl (ihN rfl) rfl ?_
  refine bplain (pc' := 68) rfl dX0_isOwn_67 rfl (ihN rfl) rfl ?_
  refine bplain (pc' := 69) rfl dX0_isOwn_68 rfl (ihN rfl) rfl ?_
  refine bplain (pc' := 70) rfl dX0_isOwn_69 rfl (ihN rfl) rfl ?_
  refine bplain (pc' := 71) rfl dX0_isOwn_70 rfl (ihN rfl) rfl ?_
  refine bcall (pc' := 74) rfl dX0_isOwn_71 rfl (trivial) (lcs (l := q1214) mt_X0_in ⟨by decide, by decide⟩ mok_X0_in rfl ln_210 (Or.inl q1213)) (ihN rfl) rfl ?_
  refine bjmp (tg := 81) (pc' := 77) rfl (by decide) (by decide) rfl dX0_isOwn_74 rfl (ihN rfl) rfl ?_
  refine bplain (pc' := 78) rfl dX0_isOwn_77 rfl (ihN rfl) rfl ?_
  refine bjmp (tg := 82) (pc' := 81) rfl (by decide) (by decide) rfl dX0_isOwn_78 rfl (ihN rfl) rfl ?_
  exact trivial
theorem bf_X0_isOwn_81 : BOKt mt tX0_isOwn 236 81 b_X0_isOwn_81 := by
  refine bnop1 ?_
  refine bplain (pc' := 82) rfl dX0_isOwn_81 rfl (ihN rfl) rfl ?_
  exact bnop0 rfl (by decide)
theorem bf_X0_isOwn_82 : BOKt mt tX0_isOwn 236 82 b_X0_isOwn_82 := by
  refine bnop1 ?_
  refine bret (pc' := 83) rfl dX0_isOwn_82 rfl (Or.inr ⟨rfl, rfl⟩) (ihN rfl) rfl ?_
  exact trivial
theorem tf_X0_isOwn : ∀ x ∈ tb_X0_isOwn, BOK mt 236 x.1 x.2 := tb_c mt_X0_isOwn bf_X0_isOwn_0 (tb_c mt_X0_isOwn bf_X0_isOwn_44 (tb_c mt_X0_isOwn bf_X0_isOwn_45 (tb_c mt_X0_isOwn bf_X0_isOwn_46 (tb_c mt_X0_isOwn bf_X0_isOwn_81 (tb_c mt_X0_isOwn bf_X0_isOwn_82 (tb_n))))))
theorem bf_X0_reads_0 : BOKt mt tX0_reads 237 0 b_X0_reads_0 := by
  refine bplain (pc' := 1) rfl dX0_reads_0 rfl (ihN rfl) rfl ?_
  refine bplain (pc' := 2) rfl dX0_reads_1 rfl (ihN rfl) rfl ?_
  refine bcall (pc' := 5) rfl dX0_reads_2 rfl (trivial) (lcv (n := 1) rfl (pvc (lfv mt_X6_at ⟨by decide, by decide⟩ mok_X6_at ⟨by decide, by decide⟩ ⟨q1785, ln_342, Or.inl ⟨q1784, Or.inl q1786⟩⟩) (trivial)) (Or.inl (by decide))) (ihN rfl) rfl ?_
  refine bplain (pc' := 7) rfl dX0_reads_5 rfl (ihN rfl) rfl ?_
  refine bplain (pc' := 9) rfl dX0_reads_7 rfl (ihN rfl) rfl ?_
  refine bthr (pc' := 12) rfl dX0_reads_9 rfl (lkf1 (host := "StrideTurns") (by decide) q1669 lf_310) (trivial) (ihN rfl) rfl ?_
  refine bplain (pc' := 13) rfl dX0_reads_12 rfl (ihN rfl) rfl ?_
  refine bjmp (tg := 21) (pc' := 16) rfl (by decide) (by decide) rfl dX0_reads_13 rfl (ihN rfl) rfl ?_
  refine bplain (pc' := 18) rfl dX0_reads_16 rfl (ihN rfl) rfl ?_
  refine bjmp (tg := 22) (pc' := 21) rfl (by decide) (by decide) rfl dX0_reads_18 rfl (ihN rfl) rfl ?_
  exact bnop0 rfl (by decide)
theorem bf_X0_reads_21 : BOKt mt tX0_reads 237 21 b_X0_reads_21 := by
  refine bnop1 ?_
  refine bret (pc' := 22) rfl dX0_reads_21 rfl (rfl) (ihN rfl) rfl ?_
  exact trivial
theorem bf_X0_reads_22 : BOKt mt tX0_reads 237 22 b_X0_reads_22 := by
  refine bplain (pc' := 23) rfl dX0_reads_22 rfl (ihN rfl) rfl ?_
  refine bthr (pc' := 26) rfl dX0_reads_23 rfl (lkf0 q1122 lf_122) (trivial) (ihN rfl) rfl ?_
  refine bplain (pc' := 27) rfl dX0_reads_26 rfl (ihN rfl) rfl ?_
  refine bplain (pc' := 29) rfl dX0_reads_27 rfl (ihN rfl) rfl ?_
  refine bthr (pc' := 32) rfl dX0_reads_29 rfl (lkf1 (host := "StrideTurns") (by decide) q1669 lf_310) (trivial) (ihN rfl) rfl ?_
  refine bplain (pc' := 33) rfl dX0_reads_32 rfl (ihN rfl) rfl ?_
  refine bcall (pc' := 36) rfl dX0_reads_33 rfl (trivial) (lcs (l := q2243) mt_X0_setAt ⟨by decide, by decide⟩ mok_X0_setAt rfl ln_255 (Or.inl q2242)) (ihN rfl) rfl ?_
  refine bplain (pc' := 37) rfl dX0_reads_36 rfl (ihN rfl) rfl ?_
  refine bplain (pc' := 38) rfl dX0_reads_37 rfl (ihN rfl) rfl ?_
  refine bplain (pc' := 39) rfl dX0_reads_38 rfl (ihN rfl) rfl ?_
  refine bplain (pc' := 41) rfl dX0_reads_39 rfl (ihN rfl) rfl ?_
  refine bplain (pc' := 42) rfl dX0_reads_41 rfl (ihN rfl) rfl ?_
  refine bplain (pc' := 44) rfl dX0_reads_42 rfl (ihN rfl) rfl ?_
  refine bcall (pc' := 47) rfl dX0_reads_44 rfl (trivial) (lcv (n := 3) rfl (pvc (lfv mt_X0_cellsOf ⟨by decide, by decide⟩ mok_X0_cellsOf ⟨by decide, by decide⟩ ⟨q2247, ln_433, Or.inl ⟨q2245, Or.inl qs28⟩⟩) (trivial)) (Or.inl (by decide))) (ihN rfl) rfl ?_
  refine bplain (pc' := 48) rfl dX0_reads_47 rfl (ihN rfl) rfl ?_
  refine bplain (pc' := 49) rfl dX0_reads_48 rfl (ihN rfl) rfl ?_
  refine bplain (pc' := 50) rfl dX0_reads_49 rfl (ihN rfl) rfl ?_
  refine bthr (pc' := 53) rfl dX0_reads_50 rfl (lkf1 (host := "StrideTurns") (by decide) q1696 lf_322) (trivial) (ihN rfl) rfl ?_
  refine bcall (pc' := 56) rfl dX0_reads_53 rfl (trivial) (lcv (n := 0) rfl (pvc (lfv mt_X1_isFirm ⟨by decide, by decide⟩ mok_X1_isFirm ⟨by decide, by decide⟩ ⟨q2250, ln_30, Or.inl ⟨q2249, Or.inl q2251⟩⟩) (trivial)) (Or.inl (by decide))) (ihN rfl) rfl ?_
  refine bjmp (tg := 79) (pc' := 59) rfl (by decide) (by decide) rfl dX0_reads_56 rfl (ihN rfl) rfl ?_
  refine bplain (pc' := 60) rfl dX0_reads_59 rfl (ihN rfl) rfl ?_
  refine bplain (pc' := 61) rfl dX0_reads_60 rfl (ihN rfl) rfl ?_
  refine bcall (pc' := 64) rfl dX0_reads_61 rfl (trivial) (lcv (n := 1) rfl (pvc (lfv mt_X6_at ⟨by decide, by decide⟩ mok_X6_at ⟨by decide, by decide⟩ ⟨q1785, ln_342, Or.inl ⟨q1784, Or.inl q1786⟩⟩) (trivial)) (Or.inl (by decide))) (ihN rfl) rfl ?_
  refine bthr (pc' := 67) rfl dX0_reads_64 rfl (lkf1 (host := "StrideTurns") (by decide) q1669 lf_310) (trivial) (ihN rfl) rfl ?_
  refine bplain (pc' := 69) rfl dX0_reads_67 rfl (ihN rfl) rfl ?_
  refine bthr (pc' := 72) rfl dX0_reads_69 rfl (lkf1 (host := "StrideTurns") (by decide) q1669 lf_310) (trivial) (ihN rfl) rfl ?_
  refine bjmp (tg := 79) (pc' := 75) rfl (by decide) (by decide) rfl dX0_reads_72 rfl (ihN rfl) rfl ?_
  refine bplain (pc' := 76) rfl dX0_reads_75 rfl (ihN rfl) rfl ?_
  refine bjmp (tg := 80) (pc' := 79) rfl (by decide) (by decide) rfl dX0_reads_76 rfl (ihN rfl) rfl ?_
  exact trivial
theorem bf_X0_reads_79 : BOKt mt tX0_reads 237 79 b_X0_reads_79 := by
  refine bnop1 ?_
  refine bplain (pc' := 80) rfl dX0_reads_79 rfl (ihN rfl) rfl ?_
  exact bnop0 rfl (by decide)
theorem bf_X0_reads_80 : BOKt mt tX0_reads 237 80 b_X0_reads_80 := by
  refine bnop1 ?_
  refine bplain (pc' := 82) rfl dX0_reads_80 rfl (ihN rfl) rfl ?_
  refine bplain (pc' := 83) rfl dX0_reads_82 rfl (ihN rfl) rfl ?_
  refine bplain (pc' := 85) rfl dX0_reads_83 rfl (ihN rfl) rfl ?_
  exact bnop0 rfl (by decide)
theorem bf_X0_reads_85 : BOKt mt tX0_reads 237 85 b_X0_reads_85 := by
  refine bnop1 ?_
  refine bplain (pc' := 87) rfl dX0_reads_85 rfl (ihN rfl) rfl ?_
  refine bplain (pc' := 89) rfl dX0_reads_87 rfl (ihN rfl) rfl ?_
  refine bjmp (tg := 184) (pc' := 92) rfl (by decide) (by decide) rfl dX0_reads_89 rfl (ihN rfl) rfl ?_
  refine bplain (pc' := 94) rfl dX0_reads_92 rfl (ihN rfl) rfl ?_
  refine bthr (pc' := 97) rfl dX0_reads_94 rfl (lkf1 (host := "StrideTurns") (by decide) q1680 lf_308) (trivial) (ihN rfl) rfl ?_
  refine bplain (pc' := 98) rfl dX0_reads_97 rfl (ihN rfl) rfl ?_
  refine bplain (pc' := 100) rfl dX0_reads_98 rfl (ihN rfl) rfl ?_
  refine bcall (pc' := 105) rfl dX0_reads_100 rfl (trivial) (lcl (n := 2) (j := 2) rfl q2235 ln_252 rfl (plc (lfl (q := 31) rfl ⟨by decide, by decide⟩ rfl mt_X7_lambda_new_0 ⟨by decide, by decide⟩ mok_X7_lambda_new_0 ll_388 ll_389) (plc (lfl (q := 35) rfl ⟨by decide, by decide⟩ rfl mt_X7_lambda_moves_1 ⟨by decide, by decide⟩ mok_X7_lambda_moves_1 ll_386 ll_387) (trivial)))) (ihN rfl) rfl ?_
  refine bplain (pc' := 107) rfl dX0_reads_105 rfl (ihN rfl) rfl ?_
  refine bplain (pc' := 108) rfl dX0_reads_107 rfl (ihN rfl) rfl ?_
  refine bthr (pc' := 111) rfl dX0_reads_108 rfl (lkf0 q1123 lf_124) (trivial) (ihN rfl) rfl ?_
  refine bplain (pc' := 113) rfl dX0_reads_111 rfl (ihN rfl) rfl ?_
  refine bthr (pc' := 116) rfl dX0_reads_113 rfl (lkf1 (host := "StrideTurns") (by decide) q1669 lf_310) (trivial) (ihN rfl) rfl ?_
  refine bplain (pc' := 117) rfl dX0_reads_116 rfl (ihN rfl) rfl ?_
  refine bplain (pc' := 119) rfl dX0_reads_117 rfl (ihN rfl) rfl ?_
  refine bplain (pc' := 120) rfl dX0_reads_119 rfl (ihN rfl) rfl ?_
  refine bplain (pc' := 121) rfl dX0_reads_120 rfl (ihN rfl) rfl ?_
  refine bplain (pc' := 122) rfl dX0_reads_121 rfl (ihN rfl) rfl ?_
  refine bplain (pc' := 123) rfl dX0_reads_122 rfl (ihN rfl) rfl ?_
  refine bplain (pc' := 124) rfl dX0_reads_123 rfl (ihN rfl) rfl ?_
  refine bjmp (tg := 144) (pc' := 127) rfl (by decide) (by decide) rfl dX0_reads_124 rfl (ihN rfl) rfl ?_
  refine bplain (pc' := 129) rfl dX0_reads_127 rfl (ihN rfl) rfl ?_
  refine bjmp (tg := 148) (pc' := 132) rfl (by decide) (by decide) rfl dX0_reads_129 rfl (ihN rfl) rfl ?_
  refine bplain (pc' := 133) rfl dX0_reads_132 rfl (ihN rfl) rfl ?_
  refine bplain (pc' := 134) rfl dX0_reads_133 rfl (ihN rfl) rfl ?_
  refine bplain (pc' := 136) rfl dX0_reads_134 rfl (ihN rfl) rfl ?_
  refine bplain (pc' := 138) rfl dX0_reads_136 rfl (ihN rfl) rfl ?_
  refine bcall (pc' := 141) rfl dX0_reads_138 rfl (trivial) (lcs (l := q2254) mt_X0_isOwn ⟨by decide, by decide⟩ mok_X0_isOwn rfl ln_434 (Or.inl q2253)) (ihN rfl) rfl ?_
  refine bjmp (tg := 148) (pc' := 144) rfl (by decide) (by decide) rfl dX0_reads_141 rfl (ihN rfl) rfl ?_
  exact bnop0 rfl (by decide)
theorem bf_X0_reads_144 : BOKt mt tX0_reads 237 144 b_X0_reads_144 := by
  refine bnop1 ?_
  refine bplain (pc' := 145) rfl dX0_reads_144 rfl (ihN rfl) rfl ?_
  refine bjmp (tg := 149) (pc' := 148) rfl (by decide) (by decide) rfl dX0_reads_145 rfl (ihN rfl) rfl ?_
  exact trivial
theorem bf_X0_reads_148 : BOKt mt tX0_reads 237 148 b_X0_reads_148 := by
  refine bnop1 ?_
  refine bplain (pc' := 149) rfl dX0_reads_148 rfl (ihN rfl) rfl ?_
  exact bnop0 rfl (by decide)
theorem bf_X0_reads_149 : BOKt mt tX0_reads 237 149 b_X0_reads_149 := by
  refine bnop1 ?_
  refine bplain (pc' := 151) rfl dX0_reads_149 rfl (ihN rfl) rfl ?_
  refine bplain (pc' := 153) rfl dX0_reads_151 rfl (ihN rfl) rfl ?_
  refine bjmp (tg := 178) (pc' := 156) rfl (by decide) (by decide) rfl dX0_reads_153 rfl (ihN rfl) rfl ?_
  refine bplain (pc' := 157) rfl dX0_reads_156 rfl (ihN rfl) rfl ?_
  refine bthr (pc' := 160) rfl dX0_reads_157 rfl (lkf0 q1122 lf_122) (trivial) (ihN rfl) rfl ?_
  refine bplain (pc' := 161) rfl dX0_reads_160 rfl (ihN rfl) rfl ?_
  refine bplain (pc' := 163) rfl dX0_reads_161 rfl (ihN rfl) rfl ?_
  refine bthr (pc' := 166) rfl dX0_reads_163 rfl (lkf1 (host := "StrideTurns") (by decide) q1669 lf_310) (trivial) (ihN rfl) rfl ?_
  refine bplain (pc' := 167) rfl dX0_reads_166 rfl (ihN rfl) rfl ?_
  refine bcall (pc' := 170) rfl dX0_reads_167 rfl (trivial) (lcs (l := q2243) mt_X0_setAt ⟨by decide, by decide⟩ mok_X0_setAt rfl ln_255 (Or.inl q2242)) (ihN rfl) rfl ?_
  refine bplain (pc' := 171) rfl dX0_reads_170 rfl (ihN rfl) rfl ?_
  refine bplain (pc' := 172) rfl dX0_reads_171 rfl (ihN rfl) rfl ?_
  refine bplain (pc' := 173) rfl dX0_reads_172 rfl (ihN rfl) rfl ?_
  refine bplain (pc' := 175) rfl dX0_reads_173 rfl (ihN rfl) rfl ?_
  refine bplain (pc' := 176) rfl dX0_reads_175 rfl (ihN rfl) rfl ?_
  refine bplain (pc' := 177) rfl dX0_reads_176 rfl (ihN rfl) rfl ?_
  refine bplain (pc' := 178) rfl dX0_reads_177 rfl (ihN rfl) rfl ?_
  exact bnop0 rfl (by decide)
theorem bf_X0_reads_178 : BOKt mt tX0_reads 237 178 b_X0_reads_178 := by
  refine bnop1 ?_
  refine bplain (pc' := 181) rfl dX0_reads_178 rfl (ihN rfl) rfl ?_
  refine bjmp (tg := 85) (pc' := 184) rfl (by decide) (by decide) rfl dX0_reads_181 rfl (ihN rfl) rfl ?_
  exact trivial
theorem bf_X0_reads_184 : BOKt mt tX0_reads 237 184 b_X0_reads_184 := by
  refine bret (pc' := 185) rfl dX0_reads_184 rfl (rfl) (ihN rfl) rfl ?_
  exact trivial
theorem tf_X0_reads : ∀ x ∈ tb_X0_reads, BOK mt 237 x.1 x.2 := tb_c mt_X0_reads bf_X0_reads_0 (tb_c mt_X0_reads bf_X0_reads_21 (tb_c mt_X0_reads bf_X0_reads_22 (tb_c mt_X0_reads bf_X0_reads_79 (tb_c mt_X0_reads bf_X0_reads_80 (tb_c mt_X0_reads bf_X0_reads_85 (tb_c mt_X0_reads bf_X0_reads_144 (tb_c mt_X0_reads bf_X0_reads_148 (tb_c mt_X0_reads bf_X0_reads_149 (tb_c mt_X0_reads bf_X0_reads_178 (tb_c mt_X0_reads bf_X0_reads_184 (tb_n)))))))))))
theorem bf_X1_isDoubtful_0 : BOKt mt tX1_isDoubtful 238 0 b_X1_isDoubtful_0 := by
  refine bplain (pc' := 1) rfl dX1_isDoubtful_0 rfl (ihN rfl) rfl ?_
  refine bthr (pc' := 4) rfl dX1_isDoubtful_1 rfl (lkf0 q250 lf_3) (trivial) (ihN rfl) rfl ?_
  refine bplain (pc' := 6) rfl dX1_isDoubtful_4 rfl (ihN rfl) rfl ?_
  refine bjmp (tg := 13) (pc' := 9) rfl (by decide) (by decide) rfl dX1_isDoubtful_6 rfl (ihN rfl) rfl ?_
  refine bplain (pc' := 10) rfl dX1_isDoubtful_9 rfl (ihN rfl) rfl ?_
  refine bjmp (tg := 14) (pc' := 13) rfl (by decide) (by decide) rfl dX1_isDoubtful_10 rfl (ihN rfl) rfl ?_
  exact trivial
theorem bf_X1_isDoubtful_13 : BOKt mt tX1_isDoubtful 238 13 b_X1_isDoubtful_13 := by
  refine bplain (pc' := 14) rfl dX1_isDoubtful_13 rfl (ihN rfl) rfl ?_
  exact bnop0 rfl (by decide)
theorem bf_X1_isDoubtful_14 : BOKt mt tX1_isDoubtful 238 14 b_X1_isDoubtful_14 := by
  refine bnop1 ?_
  refine bret (pc' := 15) rfl dX1_isDoubtful_14 rfl (Or.inr ⟨rfl, rfl⟩) (ihN rfl) rfl ?_
  exact trivial
theorem tf_X1_isDoubtful : ∀ x ∈ tb_X1_isDoubtful, BOK mt 238 x.1 x.2 := tb_c mt_X1_isDoubtful bf_X1_isDoubtful_0 (tb_c mt_X1_isDoubtful bf_X1_isDoubtful_13 (tb_c mt_X1_isDoubtful bf_X1_isDoubtful_14 (tb_n)))
theorem bf_X0_goes_0 : BOKt mt tX0_goes 239 0 b_X0_goes_0 := by
  refine bplain (pc' := 1) rfl dX0_goes_0 rfl (ihN rfl) rfl ?_
  refine bplain (pc' := 2) rfl dX0_goes_1 rfl (ihN rfl) rfl ?_
  exact bnop0 rfl (by decide)
theorem bf_X0_goes_2 : BOKt mt tX0_goes 239 2 b_X0_goes_2 := by
  refine bnop1 ?_
  refine bplain (pc' := 3) rfl dX0_goes_2 rfl (ihN rfl) rfl ?_
  refine bplain (pc' := 5) rfl dX0_goes_3 rfl (ihN rfl) rfl ?_
  refine bjmp (tg := 21) (pc' := 8) rfl (by decide) (by decide) rfl dX0_goes_5 rfl (ihN rfl) rfl ?_
  refine bplain (pc' := 9) rfl dX0_goes_8 rfl (ihN rfl) rfl ?_
  refine bthr (pc' := 12) rfl dX0_goes_9 rfl (lkf0 q1123 lf_124) (trivial) (ihN rfl) rfl ?_
  refine bplain (pc' := 13) rfl dX0_goes_12 rfl (ihN rfl) rfl ?_
  refine bplain (pc' := 14) rfl dX0_goes_13 rfl (ihN rfl) rfl ?_
  refine bplain (pc' := 15) rfl dX0_goes_14 rfl (ihN rfl) rfl ?_
  refine bplain (pc' := 18) rfl dX0_goes_15 rfl (ihN rfl) rfl ?_
  refine bjmp (tg := 2) (pc' := 21) rfl (by decide) (by decide) rfl dX0_goes_18 rfl (ihN rfl) rfl ?_
  exact trivial
theorem bf_X0_goes_21 : BOKt mt tX0_goes 239 21 b_X0_goes_21 := by
  refine bplain (pc' := 22) rfl dX0_goes_21 rfl (ihN rfl) rfl ?_
  refine bplain (pc' := 23) rfl dX0_goes_22 rfl (ihN rfl) rfl ?_
  refine bplain (pc' := 24) rfl dX0_goes_23 rfl (ihN rfl) rfl ?_
  refine bplain (pc' := 25) rfl dX0_goes_24 rfl (ihN rfl) rfl ?_
  exact bnop0 rfl (by decide)
theorem bf_X0_goes_25 : BOKt mt tX0_goes 239 25 b_X0_goes_25 := by
  refine bnop1 ?_
  refine bplain (pc' := 26) rfl dX0_goes_25 rfl (ihN rfl) rfl ?_
  refine bplain (pc' := 27) rfl dX0_goes_26 rfl (ihN rfl) rfl ?_
  refine bthr (pc' := 30) rfl dX0_goes_27 rfl (lkf0 q1115 lf_116) (trivial) (ihN rfl) rfl ?_
  refine bcall (pc' := 33) rfl dX0_goes_30 rfl (trivial) (lcv (n := 0) rfl (pvc (lfv mt_J20_size ⟨by decide, by decide⟩ mok_J20_size ⟨by decide, by decide⟩ ⟨q1648, ln_40, Or.inl ⟨q1647, Or.inl q1649⟩⟩) (trivial)) (Or.inl (by decide))) (ihN rfl) rfl ?_
  refine bjmp (tg := 358) (pc' := 36) rfl (by decide) (by decide) rfl dX0_goes_33 rfl (ihN rfl) rfl ?_
  refine bplain (pc' := 37) rfl dX0_goes_36 rfl (ihN rfl) rfl ?_
  refine bthr (pc' := 40) rfl dX0_goes_37 rfl (lkf0 q1115 lf_116) (trivial) (ihN rfl) rfl ?_
  refine bplain (pc' := 41) rfl dX0_goes_40 rfl (ihN rfl) rfl ?_
  refine bcall (pc' := 44) rfl dX0_goes_41 rfl (trivial) (lcv (n := 1) rfl (pvc (lfv mt_J20_get ⟨by decide, by decide⟩ mok_J20_get ⟨by decide, by decide⟩ ⟨q1777, ln_338, Or.inl ⟨q1776, Or.inl q1778⟩⟩) (trivial)) (Or.inl (by decide))) (ihN rfl) rfl ?_
  refine bthr (pc' := 47) rfl dX0_goes_44 rfl (lkc (nm := "StrideTurns$Statement") q1651 lg_340 lb_341) (Or.inl rfl) (ihN rfl) rfl ?_
  refine bplain (pc' := 49) rfl dX0_goes_47 rfl (ihN rfl) rfl ?_
  refine bplain (pc' := 51) rfl dX0_goes_49 rfl (ihN rfl) rfl ?_
  refine bplain (pc' := 52) rfl dX0_goes_51 rfl (ihN rfl) rfl ?_
  refine bcall (pc' := 55) rfl dX0_goes_52 rfl (trivial) (lcv (n := 1) rfl (pvc (lfv mt_X6_isDone ⟨by decide, by decide⟩ mok_X6_isDone ⟨by decide, by decide⟩ ⟨q1877, ln_222, Or.inl ⟨q2011, Or.inl q1878⟩⟩) (trivial)) (Or.inl (by decide))) (ihN rfl) rfl ?_
  refine bjmp (tg := 61) (pc' := 58) rfl (by decide) (by decide) rfl dX0_goes_55 rfl (ihN rfl) rfl ?_
  refine bjmp (tg := 352) (pc' := 61) rfl (by decide) (by decide) rfl dX0_goes_58 rfl (ihN rfl) rfl ?_
  exact trivial
theorem bf_X0_goes_61 : BOKt mt tX0_goes 239 61 b_X0_goes_61 := by
  refine bplain (pc' := 62) rfl dX0_goes_61 rfl (ihN rfl) rfl ?_
  refine bplain (pc' := 64) rfl dX0_goes_62 rfl (ihN rfl) rfl ?_
  refine bplain (pc' := 65) rfl dX0_goes_64 rfl (ihN rfl) rfl ?_
  refine bcall (pc' := 68) rfl dX0_goes_65 rfl (trivial) (lcv (n := 1) rfl (pvc (lfv mt_X6_at ⟨by decide, by decide⟩ mok_X6_at ⟨by decide, by decide⟩ ⟨q1785, ln_342, Or.inl ⟨q1784, Or.inl q1786⟩⟩) (trivial)) (Or.inl (by decide))) (ihN rfl) rfl ?_
  refine bplain (pc' := 69) rfl dX0_goes_68 rfl (ihN rfl) rfl ?_
  refine bplain (pc' := 71) rfl dX0_goes_69 rfl (ihN rfl) rfl ?_
  refine bthr (pc' := 74) rfl dX0_goes_71 rfl (lkf1 (host := "StrideTurns") (by decide) q1699 lf_324) (trivial) (ihN rfl) rfl ?_
  refine bcall (pc' := 77) rfl dX0_goes_74 rfl (trivial) (lcv (n := 3) rfl (pvc (lfv mt_X0_fits ⟨by decide, by decide⟩ mok_X0_fits ⟨by decide, by decide⟩ ⟨q2231, ln_435, Or.inl ⟨q2229, Or.inl qs26⟩⟩) (trivial)) (Or.inl (by decide))) (ihN rfl) rfl ?_
  refine bplain (pc' := 79) rfl dX0_goes_77 rfl (ihN rfl) rfl ?_
  refine bplain (pc' := 81) rfl dX0_goes_79 rfl (ihN rfl) rfl ?_
  refine bplain (pc' := 82) rfl dX0_goes_81 rfl (ihN rfl) rfl ?_
  refine bcall (pc' := 85) rfl dX0_goes_82 rfl (trivial) (lcv (n := 1) rfl (pvc (lfv mt_X6_looks ⟨by decide, by decide⟩ mok_X6_looks ⟨by decide, by decide⟩ ⟨q2015, ln_222, Or.inl ⟨q2014, Or.inl q2016⟩⟩) (trivial)) (Or.inl (by decide))) (ihN rfl) rfl ?_
  refine bjmp (tg := 107) (pc' := 88) rfl (by decide) (by decide) rfl dX0_goes_85 rfl (ihN rfl) rfl ?_
  refine bplain (pc' := 89) rfl dX0_goes_88 rfl (ihN rfl) rfl ?_
  refine bplain (pc' := 91) rfl dX0_goes_89 rfl (ihN rfl) rfl ?_
  refine bplain (pc' := 92) rfl dX0_goes_91 rfl (ihN rfl) rfl ?_
  refine bcall (pc' := 95) rfl dX0_goes_92 rfl (trivial) (lcv (n := 1) rfl (pvc (lfv mt_X6_at ⟨by decide, by decide⟩ mok_X6_at ⟨by decide, by decide⟩ ⟨q1785, ln_342, Or.inl ⟨q1784, Or.inl q1786⟩⟩) (trivial)) (Or.inl (by decide))) (ihN rfl) rfl ?_
  refine bplain (pc' := 96) rfl dX0_goes_95 rfl (ihN rfl) rfl ?_
  refine bplain (pc' := 98) rfl dX0_goes_96 rfl (ihN rfl) rfl ?_
  refine bthr (pc' := 101) rfl dX0_goes_98 rfl (lkf1 (host := "StrideTurns") (by decide) q1699 lf_324) (trivial) (ihN rfl) rfl ?_
  refine bcall (pc' := 104) rfl dX0_goes_101 rfl (trivial) (lcv (n := 3) rfl (pvc (lfv mt_X0_fits ⟨by decide, by decide⟩ mok_X0_fits ⟨by decide, by decide⟩ ⟨q2231, ln_435, Or.inl ⟨q2229, Or.inl qs26⟩⟩) (trivial)) (Or.inl (by decide))) (ihN rfl) rfl ?_
  refine bjmp (tg := 112) (pc' := 107) rfl (by decide) (by decide) rfl dX0_goes_104 rfl (ihN rfl) rfl ?_
  exact trivial
theorem bf_X0_goes_107 : BOKt mt tX0_goes 239 107 b_X0_goes_107 := by
  refine bplain (pc' := 109) rfl dX0_goes_107 rfl (ihN rfl) rfl ?_
  refine bthr (pc' := 112) rfl dX0_goes_109 rfl (lkf1 (host := "StrideTurns") (by decide) q1699 lf_324) (trivial) (ihN rfl) rfl ?_
  exact bnop0 rfl (by decide)
theorem bf_X0_goes_112 : BOKt mt tX0_goes 239 112 b_X0_goes_112 := by
  refine bnop1 ?_
  refine bplain (pc' := 114) rfl dX0_goes_112 rfl (ihN rfl) rfl ?_
  refine bplain (pc' := 116) rfl dX0_goes_114 rfl (ihN rfl) rfl ?_
  refine bplain (pc' := 118) rfl dX0_goes_116 rfl (ihN rfl) rfl ?_
  refine bcall (pc' := 121) rfl dX0_goes_118 rfl (trivial) (lcs (l := q549) mt_J8_min ⟨by decide, by decide⟩ mok_J8_min rfl ln_252 (Or.inl q2237)) (ihN rfl) rfl ?_
  refine bplain (pc' := 122) rfl dX0_goes_121 rfl (ihN rfl) rfl ?_
  refine bplain (pc' := 124) rfl dX0_goes_122 rfl (ihN rfl) rfl ?_
  refine bplain (pc' := 125) rfl dX0_goes_124 rfl (ihN rfl) rfl ?_
  refine bcall (pc' := 128) rfl dX0_goes_125 rfl (trivial) (lcv (n := 1) rfl (pvc (lfv mt_X6_at ⟨by decide, by decide⟩ mok_X6_at ⟨by decide, by decide⟩ ⟨q1785, ln_342, Or.inl ⟨q1784, Or.inl q1786⟩⟩) (trivial)) (Or.inl (by decide))) (ihN rfl) rfl ?_
  refine bplain (pc' := 129) rfl dX0_goes_128 rfl (ihN rfl) rfl ?_
  refine bplain (pc' := 131) rfl dX0_goes_129 rfl (ihN rfl) rfl ?_
  refine bthr (pc' := 134) rfl dX0_goes_131 rfl (lkf1 (host := "StrideTurns") (by decide) q1699 lf_324) (trivial) (ihN rfl) rfl ?_
  refine bcall (pc' := 137) rfl dX0_goes_134 rfl (trivial) (lcv (n := 3) rfl (pvc (lfv mt_X0_fits ⟨by decide, by decide⟩ mok_X0_fits ⟨by decide, by decide⟩ ⟨q2231, ln_435, Or.inl ⟨q2229, Or.inl qs26⟩⟩) (trivial)) (Or.inl (by decide))) (ihN rfl) rfl ?_
  refine bcall (pc' := 140) rfl dX0_goes_137 rfl (trivial) (lcs (l := q549) mt_J8_min ⟨by decide, by decide⟩ mok_J8_min rfl ln_252 (Or.inl q2237)) (ihN rfl) rfl ?_
  refine bplain (pc' := 142) rfl dX0_goes_140 rfl (ihN rfl) rfl ?_
  refine bplain (pc' := 144) rfl dX0_goes_142 rfl (ihN rfl) rfl ?_
  refine bplain (pc' := 146) rfl dX0_goes_144 rfl (ihN rfl) rfl ?_
  refine bthr (pc' := 149) rfl dX0_goes_146 rfl (lkf1 (host := "StrideTurns") (by decide) q1699 lf_324) (trivial) (ihN rfl) rfl ?_
  refine bjmp (tg := 156) (pc' := 152) rfl (by decide) (by decide) rfl dX0_goes_149 rfl (ihN rfl) rfl ?_
  refine bplain (pc' := 153) rfl dX0_goes_152 rfl (ihN rfl) rfl ?_
  refine bjmp (tg := 157) (pc' := 156) rfl (by decide) (by decide) rfl dX0_goes_153 rfl (ihN rfl) rfl ?_
  exact trivial
theorem bf_X0_goes_156 : BOKt mt tX0_goes 239 156 b_X0_goes_156 := by
  refine bplain (pc' := 157) rfl dX0_goes_156 rfl (ihN rfl) rfl ?_
  exact bnop0 rfl (by decide)
theorem bf_X0_goes_157 : BOKt mt tX0_goes 239 157 b_X0_goes_157 := by
  refine bnop1 ?_
  refine bplain (pc' := 159) rfl dX0_goes_157 rfl (ihN rfl) rfl ?_
  refine bplain (pc' := 160) rfl dX0_goes_159 rfl (ihN rfl) rfl ?_
  refine bplain (pc' := 162) rfl dX0_goes_160 rfl (ihN rfl) rfl ?_
  refine bplain (pc' := 163) rfl dX0_goes_162 rfl (ihN rfl) rfl ?_
  refine bplain (pc' := 164) rfl dX0_goes_163 rfl (ihN rfl) rfl ?_
  refine bplain (pc' := 166) rfl dX0_goes_164 rfl (ihN rfl) rfl ?_
  refine bplain (pc' := 168) rfl dX0_goes_166 rfl (ihN rfl) rfl ?_
  refine bplain (pc' := 170) rfl dX0_goes_168 rfl (ihN rfl) rfl ?_
  refine bplain (pc' := 171) rfl dX0_goes_170 rfl (ihN rfl) rfl ?_
  refine bcall (pc' := 174) rfl dX0_goes_171 rfl (trivial) (lcs (l := q549) mt_J8_min ⟨by decide, by decide⟩ mok_J8_min rfl ln_252 (Or.inl q2237)) (ihN rfl) rfl ?_
  refine bcall (pc' := 177) rfl dX0_goes_174 rfl (trivial) (lcv (n := 4) rfl (pvc (lfv mt_X0_reads ⟨by decide, by decide⟩ mok_X0_reads ⟨by decide, by decide⟩ ⟨q2240, ln_436, Or.inl ⟨q2238, Or.inl qs27⟩⟩) (trivial)) (Or.inl (by decide))) (ihN rfl) rfl ?_
  refine bplain (pc' := 179) rfl dX0_goes_177 rfl (ihN rfl) rfl ?_
  refine bplain (pc' := 180) rfl dX0_goes_179 rfl (ihN rfl) rfl ?_
  refine bcall (pc' := 183) rfl dX0_goes_180 rfl (trivial) (lcv (n := 1) rfl (pvc (lfv mt_X6_looks ⟨by decide, by decide⟩ mok_X6_looks ⟨by decide, by decide⟩ ⟨q2015, ln_222, Or.inl ⟨q2014, Or.inl q2016⟩⟩) (trivial)) (Or.inl (by decide))) (ihN rfl) rfl ?_
  refine bjmp (tg := 216) (pc' := 186) rfl (by decide) (by decide) rfl dX0_goes_183 rfl (ihN rfl) rfl ?_
  refine bplain (pc' := 187) rfl dX0_goes_186 rfl (ihN rfl) rfl ?_
  refine bplain (pc' := 189) rfl dX0_goes_187 rfl (ihN rfl) rfl ?_
  refine bplain (pc' := 190) rfl dX0_goes_189 rfl (ihN rfl) rfl ?_
  refine bplain (pc' := 191) rfl dX0_goes_190 rfl (ihN rfl) rfl ?_
  refine bplain (pc' := 193) rfl dX0_goes_191 rfl (ihN rfl) rfl ?_
  refine bplain (pc' := 195) rfl dX0_goes_193 rfl (ihN rfl) rfl ?_
  refine bplain (pc' := 197) rfl dX0_goes_195 rfl (ihN rfl) rfl ?_
  refine bjmp (tg := 208) (pc' := 200) rfl (by decide) (by decide) rfl dX0_goes_197 rfl (ihN rfl) rfl ?_
  refine bplain (pc' := 202) rfl dX0_goes_200 rfl (ihN rfl) rfl ?_
  refine bplain (pc' := 204) rfl dX0_goes_202 rfl (ihN rfl) rfl ?_
  refine bplain (pc' := 205) rfl dX0_goes_204 rfl (ihN rfl) rfl ?_
  refine bjmp (tg := 210) (pc' := 208) rfl (by decide) (by decide) rfl dX0_goes_205 rfl (ihN rfl) rfl ?_
  exact trivial
theorem bf_X0_goes_208 : BOKt mt tX0_goes 239 208 b_X0_goes_208 := by
  refine bplain (pc' := 210) rfl dX0_goes_208 rfl (ihN rfl) rfl ?_
  exact bnop0 rfl (by decide)
theorem bf_X0_goes_210 : BOKt mt tX0_goes 239 210 b_X0_goes_210 := by
  refine bnop1 ?_
  refine bcall (pc' := 213) rfl dX0_goes_210 rfl (trivial) (lcs (l := q549) mt_J8_min ⟨by decide, by decide⟩ mok_J8_min rfl ln_252 (Or.inl q2237)) (ihN rfl) rfl ?_
  refine bcall (pc' := 216) rfl dX0_goes_213 rfl (trivial) (lcv (n := 4) rfl (pvc (lfv mt_X0_reads ⟨by decide, by decide⟩ mok_X0_reads ⟨by decide, by decide⟩ ⟨q2240, ln_436, Or.inl ⟨q2238, Or.inl qs27⟩⟩) (trivial)) (Or.inl (by decide))) (ihN rfl) rfl ?_
  exact bnop0 rfl (by decide)
theorem bf_X0_goes_216 : BOKt mt tX0_goes 239 216 b_X0_goes_216 := by
  refine bnop1 ?_
  refine bplain (pc' := 218) rfl dX0_goes_216 rfl (ihN rfl) rfl ?_
  refine bjmp (tg := 346) (pc' := 221) rfl (by decide) (by decide) rfl dX0_goes_218 rfl (ihN rfl) rfl ?_
  refine bplain (pc' := 223) rfl dX0_goes_221 rfl (ihN rfl) rfl ?_
  refine bplain (pc' := 224) rfl dX0_goes_223 rfl (ihN rfl) rfl ?_
  refine bcall (pc' := 227) rfl dX0_goes_224 rfl (trivial) (lcv (n := 1) rfl (pvc (lfv mt_X6_at ⟨by decide, by decide⟩ mok_X6_at ⟨by decide, by decide⟩ ⟨q1785, ln_342, Or.inl ⟨q1784, Or.inl q1786⟩⟩) (trivial)) (Or.inl (by decide))) (ihN rfl) rfl ?_
  refine bthr (pc' := 230) rfl dX0_goes_227 rfl (lkf1 (host := "StrideTurns") (by decide) q1669 lf_310) (trivial) (ihN rfl) rfl ?_
  refine bplain (pc' := 232) rfl dX0_goes_230 rfl (ihN rfl) rfl ?_
  refine bplain (pc' := 233) rfl dX0_goes_232 rfl (ihN rfl) rfl ?_
  refine bplain (pc' := 235) rfl dX0_goes_233 rfl (ihN rfl) rfl ?_
  refine bplain (pc' := 236) rfl dX0_goes_235 rfl (ihN rfl) rfl ?_
  refine bcall (pc' := 239) rfl dX0_goes_236 rfl (trivial) (lcv (n := 1) rfl (pvc (lfv mt_X6_at ⟨by decide, by decide⟩ mok_X6_at ⟨by decide, by decide⟩ ⟨q1785, ln_342, Or.inl ⟨q1784, Or.inl q1786⟩⟩) (trivial)) (Or.inl (by decide))) (ihN rfl) rfl ?_
  refine bplain (pc' := 240) rfl dX0_goes_239 rfl (ihN rfl) rfl ?_
  refine bplain (pc' := 242) rfl dX0_goes_240 rfl (ihN rfl) rfl ?_
  refine bcall (pc' := 245) rfl dX0_goes_242 rfl (trivial) (lcv (n := 3) rfl (pvc (lfv mt_X0_cellsOf ⟨by decide, by decide⟩ mok_X0_cellsOf ⟨by decide, by decide⟩ ⟨q2247, ln_433, Or.inl ⟨q2245, Or.inl qs28⟩⟩) (trivial)) (Or.inl (by decide))) (ihN rfl) rfl ?_
  refine bplain (pc' := 247) rfl dX0_goes_245 rfl (ihN rfl) rfl ?_
  refine bplain (pc' := 248) rfl dX0_goes_247 rfl (ihN rfl) rfl ?_
  refine bplain (pc' := 250) rfl dX0_goes_248 rfl (ihN rfl) rfl ?_
  refine bthr (pc' := 253) rfl dX0_goes_250 rfl (lkf1 (host := "StrideTurns") (by decide) q1696 lf_322) (trivial) (ihN rfl) rfl ?_
  refine bcall (pc' := 256) rfl dX0_goes_253 rfl (trivial) (lcv (n := 0) rfl (pvc (lfv mt_X1_isDoubtful ⟨by decide, by decide⟩ mok_X1_isDoubtful ⟨by decide, by decide⟩ ⟨q2257, ln_30, Or.inl ⟨q2256, Or.inl q2258⟩⟩) (trivial)) (Or.inl (by decide))) (ihN rfl) rfl ?_
  refine bjmp (tg := 263) (pc' := 259) rfl (by decide) (by decide) rfl dX0_goes_256 rfl (ihN rfl) rfl ?_
  refine bplain (pc' := 260) rfl dX0_goes_259 rfl (ihN rfl) rfl ?_
  refine bjmp (tg := 264) (pc' := 263) rfl (by decide) (by decide) rfl dX0_goes_260 rfl (ihN rfl) rfl ?_
  exact trivial
theorem bf_X0_goes_263 : BOKt mt tX0_goes 239 263 b_X0_goes_263 := by
  refine bplain (pc' := 264) rfl dX0_goes_263 rfl (ihN rfl) rfl ?_
  exact bnop0 rfl (by decide)
theorem bf_X0_goes_264 : BOKt mt tX0_goes 239 264 b_X0_goes_264 := by
  refine bnop1 ?_
  refine bplain (pc' := 265) rfl dX0_goes_264 rfl (ihN rfl) rfl ?_
  refine bplain (pc' := 266) rfl dX0_goes_265 rfl (ihN rfl) rfl ?_
  refine bplain (pc' := 267) rfl dX0_goes_266 rfl (ihN rfl) rfl ?_
  refine bthr (pc' := 270) rfl dX0_goes_267 rfl (lkf0 q1122 lf_122) (trivial) (ihN rfl) rfl ?_
  refine bplain (pc' := 271) rfl dX0_goes_270 rfl (ihN rfl) rfl ?_
  refine bplain (pc' := 273) rfl dX0_goes_271 rfl (ihN rfl) rfl ?_
  refine bplain (pc' := 274) rfl dX0_goes_273 rfl (ihN rfl) rfl ?_
  refine bcall (pc' := 277) rfl dX0_goes_274 rfl (trivial) (lcs (l := q2243) mt_X0_setAt ⟨by decide, by decide⟩ mok_X0_setAt rfl ln_255 (Or.inl q2242)) (ihN rfl) rfl ?_
  refine bplain (pc' := 278) rfl dX0_goes_277 rfl (ihN rfl) rfl ?_
  refine bplain (pc' := 279) rfl dX0_goes_278 rfl (ihN rfl) rfl ?_
  refine bplain (pc' := 281) rfl dX0_goes_279 rfl (ihN rfl) rfl ?_
  refine bplain (pc' := 282) rfl dX0_goes_281 rfl (ihN rfl) rfl ?_
  refine bplain (pc' := 283) rfl dX0_goes_282 rfl (ihN rfl) rfl ?_
  refine bplain (pc' := 284) rfl dX0_goes_283 rfl (ihN rfl) rfl ?_
  refine bthr (pc' := 287) rfl dX0_goes_284 rfl (lkf0 q1123 lf_124) (trivial) (ihN rfl) rfl ?_
  refine bplain (pc' := 289) rfl dX0_goes_287 rfl (ihN rfl) rfl ?_
  refine bplain (pc' := 290) rfl dX0_goes_289 rfl (ihN rfl) rfl ?_
  refine bplain (pc' := 291) rfl dX0_goes_290 rfl (ihN rfl) rfl ?_
  refine bplain (pc' := 293) rfl dX0_goes_291 rfl (ihN rfl) rfl ?_
  refine bthr (pc' := 296) rfl dX0_goes_293 rfl (lkf1 (host := "StrideTurns") (by decide) q1696 lf_322) (trivial) (ihN rfl) rfl ?_
  refine bcall (pc' := 299) rfl dX0_goes_296 rfl (trivial) (lcv (n := 0) rfl (pvc (lfv mt_X1_isFirm ⟨by decide, by decide⟩ mok_X1_isFirm ⟨by decide, by decide⟩ ⟨q2250, ln_30, Or.inl ⟨q2249, Or.inl q2251⟩⟩) (trivial)) (Or.inl (by decide))) (ihN rfl) rfl ?_
  refine bjmp (tg := 307) (pc' := 302) rfl (by decide) (by decide) rfl dX0_goes_299 rfl (ihN rfl) rfl ?_
  refine bplain (pc' := 304) rfl dX0_goes_302 rfl (ihN rfl) rfl ?_
  refine bjmp (tg := 308) (pc' := 307) rfl (by decide) (by decide) rfl dX0_goes_304 rfl (ihN rfl) rfl ?_
  exact trivial
theorem bf_X0_goes_307 : BOKt mt tX0_goes 239 307 b_X0_goes_307 := by
  refine bplain (pc' := 308) rfl dX0_goes_307 rfl (ihN rfl) rfl ?_
  exact bnop0 rfl (by decide)
theorem bf_X0_goes_308 : BOKt mt tX0_goes 239 308 b_X0_goes_308 := by
  refine bnop1 ?_
  refine bplain (pc' := 309) rfl dX0_goes_308 rfl (ihN rfl) rfl ?_
  refine bplain (pc' := 310) rfl dX0_goes_309 rfl (ihN rfl) rfl ?_
  refine bplain (pc' := 311) rfl dX0_goes_310 rfl (ihN rfl) rfl ?_
  refine bthr (pc' := 314) rfl dX0_goes_311 rfl (lkf0 q1122 lf_122) (trivial) (ihN rfl) rfl ?_
  refine bplain (pc' := 315) rfl dX0_goes_314 rfl (ihN rfl) rfl ?_
  refine bplain (pc' := 317) rfl dX0_goes_315 rfl (ihN rfl) rfl ?_
  refine bplain (pc' := 318) rfl dX0_goes_317 rfl (ihN rfl) rfl ?_
  refine bcall (pc' := 321) rfl dX0_goes_318 rfl (trivial) (lcs (l := q2243) mt_X0_setAt ⟨by decide, by decide⟩ mok_X0_setAt rfl ln_255 (Or.inl q2242)) (ihN rfl) rfl ?_
  refine bplain (pc' := 322) rfl dX0_goes_321 rfl (ihN rfl) rfl ?_
  refine bplain (pc' := 323) rfl dX0_goes_322 rfl (ihN rfl) rfl ?_
  refine bplain (pc' := 324) rfl dX0_goes_323 rfl (ihN rfl) rfl ?_
  refine bjmp (tg := 343) (pc' := 327) rfl (by decide) (by decide) rfl dX0_goes_324 rfl (ihN rfl) rfl ?_
  refine bplain (pc' := 329) rfl dX0_goes_327 rfl (ihN rfl) rfl ?_
  refine bthr (pc' := 332) rfl dX0_goes_329 rfl (lkf1 (host := "StrideTurns") (by decide) q1696 lf_322) (trivial) (ihN rfl) rfl ?_
  refine bcall (pc' := 335) rfl dX0_goes_332 rfl (trivial) (lcv (n := 0) rfl (pvc (lfv mt_X1_isFirm ⟨by decide, by decide⟩ mok_X1_isFirm ⟨by decide, by decide⟩ ⟨q2250, ln_30, Or.inl ⟨q2249, Or.inl q2251⟩⟩) (trivial)) (Or.inl (by decide))) (ihN rfl) rfl ?_
  refine bjmp (tg := 343) (pc' := 338) rfl (by decide) (by decide) rfl dX0_goes_335 rfl (ihN rfl) rfl ?_
  refine bplain (pc' := 340) rfl dX0_goes_338 rfl (ihN rfl) rfl ?_
  refine bjmp (tg := 344) (pc' := 343) rfl (by decide) (by decide) rfl dX0_goes_340 rfl (ihN rfl) rfl ?_
  exact trivial
theorem bf_X0_goes_343 : BOKt mt tX0_goes 239 343 b_X0_goes_343 := by
  refine bnop1 ?_
  refine bplain (pc' := 344) rfl dX0_goes_343 rfl (ihN rfl) rfl ?_
  exact bnop0 rfl (by decide)
theorem bf_X0_goes_344 : BOKt mt tX0_goes 239 344 b_X0_goes_344 := by
  refine bnop1 ?_
  refine bplain (pc' := 345) rfl dX0_goes_344 rfl (ihN rfl) rfl ?_
  refine bplain (pc' := 346) rfl dX0_goes_345 rfl (ihN rfl) rfl ?_
  exact bnop0 rfl (by decide)
theorem bf_X0_goes_346 : BOKt mt tX0_goes 239 346 b_X0_goes_346 := by
  refine bnop1 ?_
  refine bplain (pc' := 348) rfl dX0_goes_346 rfl (ihN rfl) rfl ?_
  refine bjmp (tg := 352) (pc' := 351) rfl (by decide) (by decide) rfl dX0_goes_348 rfl (ihN rfl) rfl ?_
  refine bret (pc' := 352) rfl dX0_goes_351 rfl (rfl) (ihN rfl) rfl ?_
  exact trivial
theorem bf_X0_goes_352 : BOKt mt tX0_goes 239 352 b_X0_goes_352 := by
  refine bnop1 ?_
  refine bplain (pc' := 355) rfl dX0_goes_352 rfl (ihN rfl) rfl ?_
  refine bjmp (tg := 25) (pc' := 358) rfl (by decide) (by decide) rfl dX0_goes_355 rfl (ihN rfl) rfl ?_
  exact trivial
theorem bf_X0_goes_358 : BOKt mt tX0_goes 239 358 b_X0_goes_358 := by
  refine bret (pc' := 359) rfl dX0_goes_358 rfl (rfl) (ihN rfl) rfl ?_
  exact trivial
theorem tf_X0_goes : ∀ x ∈ tb_X0_goes, BOK mt 239 x.1 x.2 := tb_c mt_X0_goes bf_X0_goes_0 (tb_c mt_X0_goes bf_X0_goes_2 (tb_c mt_X0_goes bf_X0_goes_21 (tb_c mt_X0_goes bf_X0_goes_25 (tb_c mt_X0_goes bf_X0_goes_61 (tb_c mt_X0_goes bf_X0_goes_107 (tb_c mt_X0_goes bf_X0_goes_112 (tb_c mt_X0_goes bf_X0_goes_156 (tb_c mt_X0_goes bf_X0_goes_157 (tb_c mt_X0_goes bf_X0_goes_208 (tb_c mt_X0_goes bf_X0_goes_210 (tb_c mt_X0_goes bf_X0_goes_216 (tb_c mt_X0_goes bf_X0_goes_263 (tb_c mt_X0_goes bf_X0_goes_264 (tb_c mt_X0_goes bf_X0_goes_307 (tb_c mt_X0_goes bf_X0_goes_308 (tb_c mt_X0_goes bf_X0_goes_343 (tb_c mt_X0_goes bf_X0_goes_344 (tb_c mt_X0_goes bf_X0_goes_346 (tb_c mt_X0_goes bf_X0_goes_352 (tb_c mt_X0_goes bf_X0_goes_358 (tb_n)))))))))))))))))))))
theorem bf_X0_knows_0 : BOKt mt tX0_knows 240 0 b_X0_knows_0 := by
  refine bplain (pc' := 1) rfl dX0_knows_0 rfl (ihN rfl) rfl ?_
  refine bplain (pc' := 2) rfl dX0_knows_1 rfl (ihN rfl) rfl ?_
  exact bnop0 rfl (by decide)
theorem bf_X0_knows_2 : BOKt mt tX0_knows 240 2 b_X0_knows_2 := by
  refine bplain (pc' := 3) rfl dX0_knows_2 rfl (ihN rfl) rfl ?_
  refine bplain (pc' := 4) rfl dX0_knows_3 rfl (ihN rfl) rfl ?_
  refine bthr (pc' := 7) rfl dX0_knows_4 rfl (lkf0 q1122 lf_122) (trivial) (ihN rfl) rfl ?_
  refine bplain (pc' := 8) rfl dX0_knows_7 rfl (ihN rfl) rfl ?_
  refine bjmp (tg := 24) (pc' := 11) rfl (by decide) (by decide) rfl dX0_knows_8 rfl (ihN rfl) rfl ?_
  refine bplain (pc' := 12) rfl dX0_knows_11 rfl (ihN rfl) rfl ?_
  refine bthr (pc' := 15) rfl dX0_knows_12 rfl (lkf0 q1122 lf_122) (trivial) (ihN rfl) rfl ?_
  refine bplain (pc' := 16) rfl dX0_knows_15 rfl (ihN rfl) rfl ?_
  refine bplain (pc' := 17) rfl dX0_knows_16 rfl (ihN rfl) rfl ?_
  refine bplain (pc' := 18) rfl dX0_knows_17 rfl (ihN rfl) rfl ?_
  refine bplain (pc' := 21) rfl dX0_knows_18 rfl (ihN rfl) rfl ?_
  refine bjmp (tg := 2) (pc' := 24) rfl (by decide) (by decide) rfl dX0_knows_21 rfl (ihN rfl) rfl ?_
  exact trivial
theorem bf_X0_knows_24 : BOKt mt tX0_knows 240 24 b_X0_knows_24 := by
  refine bplain (pc' := 25) rfl dX0_knows_24 rfl (ihN rfl) rfl ?_
  refine bplain (pc' := 26) rfl dX0_knows_25 rfl (ihN rfl) rfl ?_
  exact bnop0 rfl (by decide)
theorem bf_X0_knows_26 : BOKt mt tX0_knows 240 26 b_X0_knows_26 := by
  refine bplain (pc' := 27) rfl dX0_knows_26 rfl (ihN rfl) rfl ?_
  refine bplain (pc' := 28) rfl dX0_knows_27 rfl (ihN rfl) rfl ?_
  refine bthr (pc' := 31) rfl dX0_knows_28 rfl (lkf0 q1118 lf_270) (trivial) (ihN rfl) rfl ?_
  refine bjmp (tg := 45) (pc' := 34) rfl (by decide) (by decide) rfl dX0_knows_31 rfl (ihN rfl) rfl ?_
  refine bplain (pc' := 35) rfl dX0_knows_34 rfl (ihN rfl) rfl ?_
  refine bplain (pc' := 36) rfl dX0_knows_35 rfl (ihN rfl) rfl ?_
  refine bcall (pc' := 39) rfl dX0_knows_36 rfl (trivial) (lcv (n := 1) rfl (pvc (lfv mt_X0_goes ⟨by decide, by decide⟩ mok_X0_goes ⟨by decide, by decide⟩ ⟨q2227, ln_115, Or.inl ⟨q2225, Or.inl qs25⟩⟩) (trivial)) (Or.inl (by decide))) (ihN rfl) rfl ?_
  refine bplain (pc' := 42) rfl dX0_knows_39 rfl (ihN rfl) rfl ?_
  refine bjmp (tg := 26) (pc' := 45) rfl (by decide) (by decide) rfl dX0_knows_42 rfl (ihN rfl) rfl ?_
  exact trivial
theorem bf_X0_knows_45 : BOKt mt tX0_knows 240 45 b_X0_knows_45 := by
  refine bret (pc' := 46) rfl dX0_knows_45 rfl (rfl) (ihN rfl) rfl ?_
  exact trivial
theorem tf_X0_knows : ∀ x ∈ tb_X0_knows, BOK mt 240 x.1 x.2 := tb_c mt_X0_knows bf_X0_knows_0 (tb_c mt_X0_knows bf_X0_knows_2 (tb_c mt_X0_knows bf_X0_knows_24 (tb_c mt_X0_knows bf_X0_knows_26 (tb_c mt_X0_knows bf_X0_knows_45 (tb_n)))))
theorem bf_X0_bitsOf_0 : BOKt mt tX0_bitsOf 241 0 b_X0_bitsOf_0 := by
  refine bplain (pc' := 1) rfl dX0_bitsOf_0 rfl (ihN rfl) rfl ?_
  refine bplain (pc' := 2) rfl dX0_bitsOf_1 rfl (ihN rfl) rfl ?_
  refine bjmp (tg := 17) (pc' := 5) rfl (by decide) (by decide) rfl dX0_bitsOf_2 rfl (ihN rfl) rfl ?_
  refine bplain (pc' := 6) rfl dX0_bitsOf_5 rfl (ihN rfl) rfl ?_
  refine bthr (pc' := 9) rfl dX0_bitsOf_6 rfl (lkf0 q1122 lf_122) (trivial) (ihN rfl) rfl ?_
  refine bplain (pc' := 10) rfl dX0_bitsOf_9 rfl (ihN rfl) rfl ?_
  refine bplain (pc' := 11) rfl dX0_bitsOf_10 rfl (ihN rfl) rfl ?_
  refine bplain (pc' := 12) rfl dX0_bitsOf_11 rfl (ihN rfl) rfl ?_
  refine bcall (pc' := 15) rfl dX0_bitsOf_12 rfl (trivial) (lcs (l := q2243) mt_X0_setAt ⟨by decide, by decide⟩ mok_X0_setAt rfl ln_255 (Or.inl q2242)) (ihN rfl) rfl ?_
  refine bplain (pc' := 16) rfl dX0_bitsOf_15 rfl (ihN rfl) rfl ?_
  refine bret (pc' := 17) rfl dX0_bitsOf_16 rfl (rfl) (ihN rfl) rfl ?_
  exact trivial
theorem bf_X0_bitsOf_17 : BOKt mt tX0_bitsOf 241 17 b_X0_bitsOf_17 := by
  refine bplain (pc' := 18) rfl dX0_bitsOf_17 rfl (ihN rfl) rfl ?_
  refine bplain (pc' := 20) rfl dX0_bitsOf_18 rfl (ihN rfl) rfl ?_
  refine bplain (pc' := 21) rfl dX0_bitsOf_20 rfl (ihN rfl) rfl ?_
  refine bplain (pc' := 23) rfl dX0_bitsOf_21 rfl (ihN rfl) rfl ?_
  exact bnop0 rfl (by decide)
theorem bf_X0_bitsOf_23 : BOKt mt tX0_bitsOf 241 23 b_X0_bitsOf_23 := by
  refine bnop1 ?_
  refine bplain (pc' := 25) rfl dX0_bitsOf_23 rfl (ihN rfl) rfl ?_
  refine bplain (pc' := 26) rfl dX0_bitsOf_25 rfl (ihN rfl) rfl ?_
  refine bthr (pc' := 29) rfl dX0_bitsOf_26 rfl (lkf0 q1118 lf_270) (trivial) (ihN rfl) rfl ?_
  refine bjmp (tg := 55) (pc' := 32) rfl (by decide) (by decide) rfl dX0_bitsOf_29 rfl (ihN rfl) rfl ?_
  refine bplain (pc' := 34) rfl dX0_bitsOf_32 rfl (ihN rfl) rfl ?_
  refine bplain (pc' := 35) rfl dX0_bitsOf_34 rfl (ihN rfl) rfl ?_
  refine bthr (pc' := 38) rfl dX0_bitsOf_35 rfl (lkf0 q1122 lf_122) (trivial) (ihN rfl) rfl ?_
  refine bplain (pc' := 39) rfl dX0_bitsOf_38 rfl (ihN rfl) rfl ?_
  refine bplain (pc' := 40) rfl dX0_bitsOf_39 rfl (ihN rfl) rfl ?_
  refine bplain (pc' := 42) rfl dX0_bitsOf_40 rfl (ihN rfl) rfl ?_
  refine bcall (pc' := 45) rfl dX0_bitsOf_42 rfl (trivial) (lcs (l := q2243) mt_X0_setAt ⟨by decide, by decide⟩ mok_X0_setAt rfl ln_255 (Or.inl q2242)) (ihN rfl) rfl ?_
  refine bplain (pc' := 46) rfl dX0_bitsOf_45 rfl (ihN rfl) rfl ?_
  refine bplain (pc' := 47) rfl dX0_bitsOf_46 rfl (ihN rfl) rfl ?_
  refine bplain (pc' := 49) rfl dX0_bitsOf_47 rfl (ihN rfl) rfl ?_
  refine bplain (pc' := 52) rfl dX0_bitsOf_49 rfl (ihN rfl) rfl ?_
  refine bjmp (tg := 23) (pc' := 55) rfl (by decide) (by decide) rfl dX0_bitsOf_52 rfl (ihN rfl) rfl ?_
  exact trivial
theorem bf_X0_bitsOf_55 : BOKt mt tX0_bitsOf 241 55 b_X0_bitsOf_55 := by
  refine bplain (pc' := 57) rfl dX0_bitsOf_55 rfl (ihN rfl) rfl ?_
  refine bret (pc' := 58) rfl dX0_bitsOf_57 rfl (rfl) (ihN rfl) rfl ?_
  exact trivial
theorem tf_X0_bitsOf : ∀ x ∈ tb_X0_bitsOf, BOK mt 241 x.1 x.2 := tb_c mt_X0_bitsOf bf_X0_bitsOf_0 (tb_c mt_X0_bitsOf bf_X0_bitsOf_17 (tb_c mt_X0_bitsOf bf_X0_bitsOf_23 (tb_c mt_X0_bitsOf bf_X0_bitsOf_55 (tb_n))))
theorem bf_J10_bitCount_0 : BOKt mt tJ10_bitCount 242 0 b_J10_bitCount_0 := by
  refine bplain (pc' := 1) rfl dJ10_bitCount_0 rfl (ihN rfl) rfl ?_
  refine bplain (pc' := 2) rfl dJ10_bitCount_1 rfl (ihN rfl) rfl ?_
  refine bplain (pc' := 3) rfl dJ10_bitCount_2 rfl (ihN rfl) rfl ?_
  refine bplain (pc' := 4) rfl dJ10_bitCount_3 rfl (ihN rfl) rfl ?_
  refine bobj (pc' := 7) rfl dJ10_bitCount_4 rfl (lkq0 lc_437 q2267) (ihN rfl) rfl ?_
  refine bplain (pc' := 8) rfl dJ10_bitCount_7 rfl (ihN rfl) rfl ?_
  refine bplain (pc' := 9) rfl dJ10_bitCount_8 rfl (ihN rfl) rfl ?_
  refine bplain (pc' := 10) rfl dJ10_bitCount_9 rfl (ihN rfl) rfl ?_
  refine bplain (pc' := 11) rfl dJ10_bitCount_10 rfl (ihN rfl) rfl ?_
  refine bobj (pc' := 14) rfl dJ10_bitCount_11 rfl (lkq0 lc_438 q2268) (ihN rfl) rfl ?_
  refine bplain (pc' := 15) rfl dJ10_bitCount_14 rfl (ihN rfl) rfl ?_
  refine bplain (pc' := 16) rfl dJ10_bitCount_15 rfl (ihN rfl) rfl ?_
  refine bplain (pc' := 17) rfl dJ10_bitCount_16 rfl (ihN rfl) rfl ?_
  refine bplain (pc' := 18) rfl dJ10_bitCount_17 rfl (ihN rfl) rfl ?_
  refine bobj (pc' := 21) rfl dJ10_bitCount_18 rfl (lkq0 lc_438 q2268) (ihN rfl) rfl ?_
  refine bplain (pc' := 22) rfl dJ10_bitCount_21 rfl (ihN rfl) rfl ?_
  refine bplain (pc' := 23) rfl dJ10_bitCount_22 rfl (ihN rfl) rfl ?_
  refine bplain (pc' := 24) rfl dJ10_bitCount_23 rfl (ihN rfl) rfl ?_
  refine bplain (pc' := 25) rfl dJ10_bitCount_24 rfl (ihN rfl) rfl ?_
  refine bplain (pc' := 26) rfl dJ10_bitCount_25 rfl (ihN rfl) rfl ?_
  refine bplain (pc' := 27) rfl dJ10_bitCount_26 rfl (ihN rfl) rfl ?_
  refine bplain (pc' := 28) rfl dJ10_bitCount_27 rfl (ihN rfl) rfl ?_
  refine bplain (pc' := 29) rfl dJ10_bitCount_28 rfl (ihN rfl) rfl ?_
  refine bobj (pc' := 32) rfl dJ10_bitCount_29 rfl (lkq0 lc_439 q2269) (ihN rfl) rfl ?_
  refine bplain (pc' := 33) rfl dJ10_bitCount_32 rfl (ihN rfl) rfl ?_
  refine bplain (pc' := 34) rfl dJ10_bitCount_33 rfl (ihN rfl) rfl ?_
  refine bplain (pc' := 35) rfl dJ10_bitCount_34 rfl (ihN rfl) rfl ?_
  refine bplain (pc' := 36) rfl dJ10_bitCount_35 rfl (ihN rfl) rfl ?_
  refine bplain (pc' := 38) rfl dJ10_bitCount_36 rfl (ihN rfl) rfl ?_
  refine bplain (pc' := 39) rfl dJ10_bitCount_38 rfl (ihN rfl) rfl ?_
  refine bplain (pc' := 40) rfl dJ10_bitCount_39 rfl (ihN rfl) rfl ?_
  refine bplain (pc' := 41) rfl dJ10_bitCount_40 rfl (ihN rfl) rfl ?_
  refine bplain (pc' := 42) rfl dJ10_bitCount_41 rfl (ihN rfl) rfl ?_
  refine bplain (pc' := 43) rfl dJ10_bitCount_42 rfl (ihN rfl) rfl ?_
  refine bplain (pc' := 45) rfl dJ10_bitCount_43 rfl (ihN rfl) rfl ?_
  refine bplain (pc' := 46) rfl dJ10_bitCount_45 rfl (ihN rfl) rfl ?_
  refine bplain (pc' := 47) rfl dJ10_bitCount_46 rfl (ihN rfl) rfl ?_
  refine bplain (pc' := 48) rfl dJ10_bitCount_47 rfl (ihN rfl) rfl ?_
  refine bplain (pc' := 49) rfl dJ10_bitCount_48 rfl (ihN rfl) rfl ?_
  refine bplain (pc' := 50) rfl dJ10_bitCount_49 rfl (ihN rfl) rfl ?_
  refine bplain (pc' := 52) rfl dJ10_bitCount_50 rfl (ihN rfl) rfl ?_
  refine bplain (pc' := 53) rfl dJ10_bitCount_52 rfl (ihN rfl) rfl ?_
  refine bplain (pc' := 54) rfl dJ10_bitCount_53 rfl (ihN rfl) rfl ?_
  refine bplain (pc' := 55) rfl dJ10_bitCount_54 rfl (ihN rfl) rfl ?_
  refine bplain (pc' := 56) rfl dJ10_bitCount_55 rfl (ihN rfl) rfl ?_
  refine bplain (pc' := 57) rfl dJ10_bitCount_56 rfl (ihN rfl) rfl ?_
  refine bplain (pc' := 59) rfl dJ10_bitCount_57 rfl (ihN rfl) rfl ?_
  refine bplain (pc' := 60) rfl dJ10_bitCount_59 rfl (ihN rfl) rfl ?_
  refine bret (pc' := 61) rfl dJ10_bitCount_60 rfl (Or.inl ⟨rfl, rfl⟩) (ihN rfl) rfl ?_
  exact trivial
theorem tf_J10_bitCount : ∀ x ∈ tb_J10_bitCount, BOK mt 242 x.1 x.2 := tb_c mt_J10_bitCount bf_J10_bitCount_0 (tb_n)
theorem bf_X0_many_0 : BOKt mt tX0_many 243 0 b_X0_many_0 := by
  refine bplain (pc' := 1) rfl dX0_many_0 rfl (ihN rfl) rfl ?_
  refine bplain (pc' := 2) rfl dX0_many_1 rfl (ihN rfl) rfl ?_
  refine bplain (pc' := 3) rfl dX0_many_2 rfl (ihN rfl) rfl ?_
  refine bplain (pc' := 4) rfl dX0_many_3 rfl (ihN rfl) rfl ?_
  refine bcall (pc' := 7) rfl dX0_many_4 rfl (trivial) (lcv (n := 3) rfl (pvc (lfv mt_X0_isSet ⟨by decide, by decide⟩ mok_X0_isSet ⟨by decide, by decide⟩ ⟨q2219, ln_226, Or.inl ⟨q2217, Or.inl qs23⟩⟩) (trivial)) (Or.inl (by decide))) (ihN rfl) rfl ?_
  refine bjmp (tg := 13) (pc' := 10) rfl (by decide) (by decide) rfl dX0_many_7 rfl (ihN rfl) rfl ?_
  refine bplain (pc' := 12) rfl dX0_many_10 rfl (ihN rfl) rfl ?_
  refine bret (pc' := 13) rfl dX0_many_12 rfl (Or.inl ⟨rfl, rfl⟩) (ihN rfl) rfl ?_
  exact trivial
theorem bf_X0_many_13 : BOKt mt tX0_many 243 13 b_X0_many_13 := by
  refine bplain (pc' := 14) rfl dX0_many_13 rfl (ihN rfl) rfl ?_
  refine bcall (pc' := 17) rfl dX0_many_14 rfl (trivial) (lcv (n := 0) rfl (pvc (lfv mt_X0_knows ⟨by decide, by decide⟩ mok_X0_knows ⟨by decide, by decide⟩ ⟨q2223, ln_0, Or.inl ⟨q2221, Or.inl qs24⟩⟩) (trivial)) (Or.inl (by decide))) (ihN rfl) rfl ?_
  refine bplain (pc' := 18) rfl dX0_many_17 rfl (ihN rfl) rfl ?_
  refine bplain (pc' := 19) rfl dX0_many_18 rfl (ihN rfl) rfl ?_
  refine bplain (pc' := 20) rfl dX0_many_19 rfl (ihN rfl) rfl ?_
  refine bplain (pc' := 21) rfl dX0_many_20 rfl (ihN rfl) rfl ?_
  refine bcall (pc' := 24) rfl dX0_many_21 rfl (trivial) (lcv (n := 3) rfl (pvc (lfv mt_X0_bitsOf ⟨by decide, by decide⟩ mok_X0_bitsOf ⟨by decide, by decide⟩ ⟨q2262, ln_440, Or.inl ⟨q2260, Or.inl qs29⟩⟩) (trivial)) (Or.inl (by decide))) (ihN rfl) rfl ?_
  refine bcall (pc' := 27) rfl dX0_many_24 rfl (trivial) (lcs (l := q2265) mt_J10_bitCount ⟨by decide, by decide⟩ mok_J10_bitCount rfl ln_441 (Or.inl q2264)) (ihN rfl) rfl ?_
  refine bret (pc' := 28) rfl dX0_many_27 rfl (Or.inl ⟨rfl, rfl⟩) (ihN rfl) rfl ?_
  exact trivial
theorem tf_X0_many : ∀ x ∈ tb_X0_many, BOK mt 243 x.1 x.2 := tb_c mt_X0_many bf_X0_many_0 (tb_c mt_X0_many bf_X0_many_13 (tb_n))
theorem bf_X3_isSet_0 : BOKt mt tX3_isSet 244 0 b_X3_isSet_0 := by
  refine bplain (pc' := 1) rfl dX3_isSet_0 rfl (ihN rfl) rfl ?_
  refine bplain (pc' := 2) rfl dX3_isSet_1 rfl (ihN rfl) rfl ?_
  refine bplain (pc' := 3) rfl dX3_isSet_2 rfl (ihN rfl) rfl ?_
  refine bcall (pc' := 6) rfl dX3_isSet_3 rfl (trivial) (lcs (l := q2747) mt_X3_in ⟨by decide, by decide⟩ mok_X3_in rfl ln_226 (Or.inl q2746)) (ihN rfl) rfl ?_
  refine bjmp (tg := 34) (pc' := 9) rfl (by decide) (by decide) rfl dX3_isSet_6 rfl (ihN rfl) rfl ?_
  refine bplain (pc' := 10) rfl dX3_isSet_9 rfl (ihN rfl) rfl ?_
  refine bcall (pc' := 13) rfl dX3_isSet_10 rfl (trivial) (lcs (l := q2744) mt_X3_isRow ⟨by decide, by decide⟩ mok_X3_isRow rfl ln_222 (Or.inl q2743)) (ihN rfl) rfl ?_
  refine bjmp (tg := 34) (pc' := 16) rfl (by decide) (by decide) rfl dX3_isSet_13 rfl (ihN rfl) rfl ?_
  refine bplain (pc' := 17) rfl dX3_isSet_16 rfl (ihN rfl) rfl ?_
  refine bplain (pc' := 18) rfl dX3_isSet_17 rfl (ihN rfl) rfl ?_
  refine bplain (pc' := 19) rfl dX3_isSet_18 rfl (ihN rfl) rfl ?_
  refine bthr (pc' := 22) rfl dX3_isSet_19 rfl (lkf0 q2603 lf_274) (trivial) (ihN rfl) rfl ?_
  refine bplain (pc' := 23) rfl dX3_isSet_22 rfl (ihN rfl) rfl ?_
  refine bplain (pc' := 24) rfl dX3_isSet_23 rfl (ihN rfl) rfl ?_
  refine bcall (pc' := 27) rfl dX3_isSet_24 rfl (trivial) (lcs (l := q2747) mt_X3_in ⟨by decide, by decide⟩ mok_X3_in rfl ln_226 (Or.inl q2746)) (ihN rfl) rfl ?_
  refine bjmp (tg := 34) (pc' := 30) rfl (by decide) (by decide) rfl dX3_isSet_27 rfl (ihN rfl) rfl ?_
  refine bplain (pc' := 31) rfl dX3_isSet_30 rfl (ihN rfl) rfl ?_
  refine bjmp (tg := 35) (pc' := 34) rfl (by decide) (by decide) rfl dX3_isSet_31 rfl (ihN rfl) rfl ?_
  exact trivial
theorem bf_X3_isSet_34 : BOKt mt tX3_isSet 244 34 b_X3_isSet_34 := by
  refine bnop1 ?_
  refine bplain (pc' := 35) rfl dX3_isSet_34 rfl (ihN rfl) rfl ?_
  exact bnop0 rfl (by decide)
theorem bf_X3_isSet_35 : BOKt mt tX3_isSet 244 35 b_X3_isSet_35 := by
  refine bnop1 ?_
  refine bret (pc' := 36) rfl dX3_isSet_35 rfl (Or.inr ⟨rfl, rfl⟩) (ihN rfl) rfl ?_
  exact trivial
theorem tf_X3_isSet : ∀ x ∈ tb_X3_isSet, BOK mt 244 x.1 x.2 := tb_c mt_X3_isSet bf_X3_isSet_0 (tb_c mt_X3_isSet bf_X3_isSet_34 (tb_c mt_X3_isSet bf_X3_isSet_35 (tb_n)))
theorem bf_X3_bitAt_0 : BOKt mt tX3_bitAt 245 0 b_X3_bitAt_0 := by
  refine bplain (pc' := 1) rfl dX3_bitAt_0 rfl (ihN rfl) rfl ?_
  refine bthr (pc' := 4) rfl dX3_bitAt_1 rfl (lkf0 q2610 lf_165) (trivial) (ihN rfl) rfl ?_
  refine bplain (pc' := 5) rfl dX3_bitAt_4 rfl (ihN rfl) rfl ?_
  refine bplain (pc' := 6) rfl dX3_bitAt_5 rfl (ihN rfl) rfl ?_
  refine bplain (pc' := 8) rfl dX3_bitAt_6 rfl (ihN rfl) rfl ?_
  refine bplain (pc' := 9) rfl dX3_bitAt_8 rfl (ihN rfl) rfl ?_
  refine bplain (pc' := 10) rfl dX3_bitAt_9 rfl (ihN rfl) rfl ?_
  refine bplain (pc' := 11) rfl dX3_bitAt_10 rfl (ihN rfl) rfl ?_
  refine bplain (pc' := 12) rfl dX3_bitAt_11 rfl (ihN rfl) rfl ?_
  refine bcall (pc' := 15) rfl dX3_bitAt_12 rfl (trivial) (lcv (n := 3) rfl (pvc (lfv mt_X3_placeOf ⟨by decide, by decide⟩ mok_X3_placeOf ⟨by decide, by decide⟩ ⟨q2893, ln_255, Or.inl ⟨q2891, Or.inl qs79⟩⟩) (trivial)) (Or.inl (by decide))) (ihN rfl) rfl ?_
  refine bplain (pc' := 17) rfl dX3_bitAt_15 rfl (ihN rfl) rfl ?_
  refine bplain (pc' := 18) rfl dX3_bitAt_17 rfl (ihN rfl) rfl ?_
  refine bthr (pc' := 21) rfl dX3_bitAt_18 rfl (lkf0 q2597 lf_145) (trivial) (ihN rfl) rfl ?_
  refine bplain (pc' := 23) rfl dX3_bitAt_21 rfl (ihN rfl) rfl ?_
  refine bplain (pc' := 24) rfl dX3_bitAt_23 rfl (ihN rfl) rfl ?_
  refine bcall (pc' := 27) rfl dX3_bitAt_24 rfl (trivial) (lcs (l := q2857) mt_X3_isNumbers ⟨by decide, by decide⟩ mok_X3_isNumbers rfl ln_222 (Or.inl q2856)) (ihN rfl) rfl ?_
  refine bjmp (tg := 55) (pc' := 30) rfl (by decide) (by decide) rfl dX3_bitAt_27 rfl (ihN rfl) rfl ?_
  refine bplain (pc' := 32) rfl dX3_bitAt_30 rfl (ihN rfl) rfl ?_
  refine bplain (pc' := 33) rfl dX3_bitAt_32 rfl (ihN rfl) rfl ?_
  refine bplain (pc' := 34) rfl dX3_bitAt_33 rfl (ihN rfl) rfl ?_
  refine bthr (pc' := 37) rfl dX3_bitAt_34 rfl (lkf0 q2598 lf_147) (trivial) (ihN rfl) rfl ?_
  refine bplain (pc' := 39) rfl dX3_bitAt_37 rfl (ihN rfl) rfl ?_
  refine bplain (pc' := 40) rfl dX3_bitAt_39 rfl (ihN rfl) rfl ?_
  refine bplain (pc' := 41) rfl dX3_bitAt_40 rfl (ihN rfl) rfl ?_
  refine bplain (pc' := 42) rfl dX3_bitAt_41 rfl (ihN rfl) rfl ?_
  refine bcall (pc' := 45) rfl dX3_bitAt_42 rfl (trivial) (lcs (l := q2747) mt_X3_in ⟨by decide, by decide⟩ mok_X3_in rfl ln_226 (Or.inl q2746)) (ihN rfl) rfl ?_
  refine bjmp (tg := 55) (pc' := 48) rfl (by decide) (by decide) rfl dX3_bitAt_45 rfl (ihN rfl) rfl ?_
  refine bplain (pc' := 49) rfl dX3_bitAt_48 rfl (ihN rfl) rfl ?_
  refine bplain (pc' := 51) rfl dX3_bitAt_49 rfl (ihN rfl) rfl ?_
  refine bplain (pc' := 52) rfl dX3_bitAt_51 rfl (ihN rfl) rfl ?_
  refine bjmp (tg := 56) (pc' := 55) rfl (by decide) (by decide) rfl dX3_bitAt_52 rfl (ihN rfl) rfl ?_
  exact trivial
theorem bf_X3_bitAt_55 : BOKt mt tX3_bitAt 245 55 b_X3_bitAt_55 := by
  refine bnop1 ?_
  refine bplain (pc' := 56) rfl dX3_bitAt_55 rfl (ihN rfl) rfl ?_
  exact bnop0 rfl (by decide)
theorem bf_X3_bitAt_56 : BOKt mt tX3_bitAt 245 56 b_X3_bitAt_56 := by
  refine bnop1 ?_
  refine bret (pc' := 57) rfl dX3_bitAt_56 rfl (Or.inl ⟨rfl, rfl⟩) (ihN rfl) rfl ?_
  exact trivial
theorem tf_X3_bitAt : ∀ x ∈ tb_X3_bitAt, BOK mt 245 x.1 x.2 := tb_c mt_X3_bitAt bf_X3_bitAt_0 (tb_c mt_X3_bitAt bf_X3_bitAt_55 (tb_c mt_X3_bitAt bf_X3_bitAt_56 (tb_n)))
theorem bf_X3_reads_0 : BOKt mt tX3_reads 246 0 b_X3_reads_0 := by
  refine bplain (pc' := 1) rfl dX3_reads_0 rfl (ihN rfl) rfl ?_
  refine bplain (pc' := 2) rfl dX3_reads_1 rfl (ihN rfl) rfl ?_
  refine bcall (pc' := 5) rfl dX3_reads_2 rfl (trivial) (lcv (n := 1) rfl (pvc (lfv mt_X3_isLooked ⟨by decide, by decide⟩ mok_X3_isLooked ⟨by decide, by decide⟩ ⟨q2929, ln_222, Or.inl ⟨q2927, Or.inl qs86⟩⟩) (trivial)) (Or.inl (by decide))) (ihN rfl) rfl ?_
  refine bjmp (tg := 10) (pc' := 8) rfl (by decide) (by decide) rfl dX3_reads_5 rfl (ihN rfl) rfl ?_
  refine bplain (pc' := 9) rfl dX3_reads_8 rfl (ihN rfl) rfl ?_
  refine bret (pc' := 10) rfl dX3_reads_9 rfl (Or.inr ⟨rfl, rfl⟩) (ihN rfl) rfl ?_
  exact trivial
theorem bf_X3_reads_10 : BOKt mt tX3_reads 246 10 b_X3_reads_10 := by
  refine bplain (pc' := 11) rfl dX3_reads_10 rfl (ihN rfl) rfl ?_
  refine bplain (pc' := 12) rfl dX3_reads_11 rfl (ihN rfl) rfl ?_
  refine bplain (pc' := 13) rfl dX3_reads_12 rfl (ihN rfl) rfl ?_
  refine bplain (pc' := 14) rfl dX3_reads_13 rfl (ihN rfl) rfl ?_
  refine bcall (pc' := 17) rfl dX3_reads_14 rfl (trivial) (lcv (n := 3) rfl (pvc (lfv mt_X3_bitAt ⟨by decide, by decide⟩ mok_X3_bitAt ⟨by decide, by decide⟩ ⟨q2969, ln_255, Or.inl ⟨q2967, Or.inl qs94⟩⟩) (trivial)) (Or.inl (by decide))) (ihN rfl) rfl ?_
  refine bplain (pc' := 19) rfl dX3_reads_17 rfl (ihN rfl) rfl ?_
  refine bplain (pc' := 20) rfl dX3_reads_19 rfl (ihN rfl) rfl ?_
  refine bthr (pc' := 23) rfl dX3_reads_20 rfl (lkf0 q2610 lf_165) (trivial) (ihN rfl) rfl ?_
  refine bplain (pc' := 24) rfl dX3_reads_23 rfl (ihN rfl) rfl ?_
  refine bplain (pc' := 25) rfl dX3_reads_24 rfl (ihN rfl) rfl ?_
  refine bplain (pc' := 27) rfl dX3_reads_25 rfl (ihN rfl) rfl ?_
  refine bplain (pc' := 28) rfl dX3_reads_27 rfl (ihN rfl) rfl ?_
  refine bthr (pc' := 31) rfl dX3_reads_28 rfl (lkf0 q2620 lf_179) (trivial) (ihN rfl) rfl ?_
  refine bplain (pc' := 33) rfl dX3_reads_31 rfl (ihN rfl) rfl ?_
  refine bplain (pc' := 34) rfl dX3_reads_33 rfl (ihN rfl) rfl ?_
  refine bplain (pc' := 35) rfl dX3_reads_34 rfl (ihN rfl) rfl ?_
  refine bplain (pc' := 37) rfl dX3_reads_35 rfl (ihN rfl) rfl ?_
  refine bplain (pc' := 38) rfl dX3_reads_37 rfl (ihN rfl) rfl ?_
  refine bplain (pc' := 39) rfl dX3_reads_38 rfl (ihN rfl) rfl ?_
  refine bplain (pc' := 40) rfl dX3_reads_39 rfl (ihN rfl) rfl ?_
  refine bplain (pc' := 42) rfl dX3_reads_40 rfl (ihN rfl) rfl ?_
  refine bplain (pc' := 43) rfl dX3_reads_42 rfl (ihN rfl) rfl ?_
  refine bplain (pc' := 44) rfl dX3_reads_43 rfl (ihN rfl) rfl ?_
  refine bplain (pc' := 45) rfl dX3_reads_44 rfl (ihN rfl) rfl ?_
  refine bthr (pc' := 48) rfl dX3_reads_45 rfl (lkf0 q2620 lf_179) (trivial) (ihN rfl) rfl ?_
  refine bplain (pc' := 50) rfl dX3_reads_48 rfl (ihN rfl) rfl ?_
  refine bplain (pc' := 51) rfl dX3_reads_50 rfl (ihN rfl) rfl ?_
  refine bplain (pc' := 52) rfl dX3_reads_51 rfl (ihN rfl) rfl ?_
  refine bplain (pc' := 54) rfl dX3_reads_52 rfl (ihN rfl) rfl ?_
  refine bplain (pc' := 55) rfl dX3_reads_54 rfl (ihN rfl) rfl ?_
  refine bplain (pc' := 57) rfl dX3_reads_55 rfl (ihN rfl) rfl ?_
  refine bplain (pc' := 58) rfl dX3_reads_57 rfl (ihN rfl) rfl ?_
  refine bplain (pc' := 59) rfl dX3_reads_58 rfl (ihN rfl) rfl ?_
  refine bplain (pc' := 60) rfl dX3_reads_59 rfl (ihN rfl) rfl ?_
  refine bplain (pc' := 62) rfl dX3_reads_60 rfl (ihN rfl) rfl ?_
  refine bplain (pc' := 63) rfl dX3_reads_62 rfl (ihN rfl) rfl ?_
  refine bthr (pc' := 66) rfl dX3_reads_63 rfl (lkf0 q2621 lf_181) (trivial) (ihN rfl) rfl ?_
  refine bplain (pc' := 68) rfl dX3_reads_66 rfl (ihN rfl) rfl ?_
  refine bplain (pc' := 69) rfl dX3_reads_68 rfl (ihN rfl) rfl ?_
  refine bplain (pc' := 70) rfl dX3_reads_69 rfl (ihN rfl) rfl ?_
  refine bplain (pc' := 71) rfl dX3_reads_70 rfl (ihN rfl) rfl ?_
  refine bplain (pc' := 72) rfl dX3_reads_71 rfl (ihN rfl) rfl ?_
  refine bplain (pc' := 73) rfl dX3_reads_72 rfl (ihN rfl) rfl ?_
  refine bplain (pc' := 74) rfl dX3_reads_73 rfl (ihN rfl) rfl ?_
  refine bplain (pc' := 76) rfl dX3_reads_74 rfl (ihN rfl) rfl ?_
  refine bjmp (tg := 83) (pc' := 79) rfl (by decide) (by decide) rfl dX3_reads_76 rfl (ihN rfl) rfl ?_
  refine bplain (pc' := 80) rfl dX3_reads_79 rfl (ihN rfl) rfl ?_
  refine bjmp (tg := 84) (pc' := 83) rfl (by decide) (by decide) rfl dX3_reads_80 rfl (ihN rfl) rfl ?_
  exact trivial
theorem bf_X3_reads_83 : BOKt mt tX3_reads 246 83 b_X3_reads_83 := by
  refine bplain (pc' := 84) rfl dX3_reads_83 rfl (ihN rfl) rfl ?_
  exact bnop0 rfl (by decide)
theorem bf_X3_reads_84 : BOKt mt tX3_reads 246 84 b_X3_reads_84 := by
  refine bnop1 ?_
  refine bret (pc' := 85) rfl dX3_reads_84 rfl (Or.inr ⟨rfl, rfl⟩) (ihN rfl) rfl ?_
  exact trivial
theorem tf_X3_reads : ∀ x ∈ tb_X3_reads, BOK mt 246 x.1 x.2 := tb_c mt_X3_reads bf_X3_reads_0 (tb_c mt_X3_reads bf_X3_reads_10 (tb_c mt_X3_reads bf_X3_reads_83 (tb_c mt_X3_reads bf_X3_reads_84 (tb_n))))
theorem bf_X3_knows_0 : BOKt mt tX3_knows 247 0 b_X3_knows_0 := by
  refine bplain (pc' := 1) rfl dX3_knows_0 rfl (ihN rfl) rfl ?_
  refine bplain (pc' := 2) rfl dX3_knows_1 rfl (ihN rfl) rfl ?_
  refine bplain (pc' := 3) rfl dX3_knows_2 rfl (ihN rfl) rfl ?_
  refine bplain (pc' := 4) rfl dX3_knows_3 rfl (ihN rfl) rfl ?_
  refine bplain (pc' := 5) rfl dX3_knows_4 rfl (ihN rfl) rfl ?_
  refine bplain (pc' := 6) rfl dX3_knows_5 rfl (ihN rfl) rfl ?_
  refine bplain (pc' := 7) rfl dX3_knows_6 rfl (ihN rfl) rfl ?_
  refine bplain (pc' := 8) rfl dX3_knows_7 rfl (ihN rfl) rfl ?_
  refine bcall (pc' := 11) rfl dX3_knows_8 rfl (trivial) (lcv (n := 3) rfl (pvc (lfv mt_X3_reads ⟨by decide, by decide⟩ mok_X3_reads ⟨by decide, by decide⟩ ⟨q2965, ln_226, Or.inl ⟨q2963, Or.inl qs93⟩⟩) (trivial)) (Or.inl (by decide))) (ihN rfl) rfl ?_
  refine bjmp (tg := 28) (pc' := 14) rfl (by decide) (by decide) rfl dX3_knows_11 rfl (ihN rfl) rfl ?_
  refine bplain (pc' := 15) rfl dX3_knows_14 rfl (ihN rfl) rfl ?_
  refine bplain (pc' := 16) rfl dX3_knows_15 rfl (ihN rfl) rfl ?_
  refine bplain (pc' := 17) rfl dX3_knows_16 rfl (ihN rfl) rfl ?_
  refine bplain (pc' := 18) rfl dX3_knows_17 rfl (ihN rfl) rfl ?_
  refine bplain (pc' := 19) rfl dX3_knows_18 rfl (ihN rfl) rfl ?_
  refine bplain (pc' := 20) rfl dX3_knows_19 rfl (ihN rfl) rfl ?_
  refine bplain (pc' := 21) rfl dX3_knows_20 rfl (ihN rfl) rfl ?_
  refine bplain (pc' := 22) rfl dX3_knows_21 rfl (ihN rfl) rfl ?_
  refine bcall (pc' := 25) rfl dX3_knows_22 rfl (trivial) (lcv (n := 3) rfl (pvc (lfv mt_X3_reads ⟨by decide, by decide⟩ mok_X3_reads ⟨by decide, by decide⟩ ⟨q2965, ln_226, Or.inl ⟨q2963, Or.inl qs93⟩⟩) (trivial)) (Or.inl (by decide))) (ihN rfl) rfl ?_
  refine bjmp (tg := 30) (pc' := 28) rfl (by decide) (by decide) rfl dX3_knows_25 rfl (ihN rfl) rfl ?_
  exact bnop0 rfl (by decide)
theorem bf_X3_knows_28 : BOKt mt tX3_knows 247 28 b_X3_knows_28 := by
  refine bnop1 ?_
  refine bplain (pc' := 29) rfl dX3_knows_28 rfl (ihN rfl) rfl ?_
  refine bret (pc' := 30) rfl dX3_knows_29 rfl (Or.inr ⟨rfl, rfl⟩) (ihN rfl) rfl ?_
  exact trivial
theorem bf_X3_knows_30 : BOKt mt tX3_knows 247 30 b_X3_knows_30 := by
  refine bplain (pc' := 31) rfl dX3_knows_30 rfl (ihN rfl) rfl ?_
  refine bplain (pc' := 32) rfl dX3_knows_31 rfl (ihN rfl) rfl ?_
  refine bplain (pc' := 33) rfl dX3_knows_32 rfl (ihN rfl) rfl ?_
  refine bplain (pc' := 34) rfl dX3_knows_33 rfl (ihN rfl) rfl ?_
  refine bplain (pc' := 35) rfl dX3_knows_34 rfl (ihN rfl) rfl ?_
  refine bplain (pc' := 36) rfl dX3_knows_35 rfl (ihN rfl) rfl ?_
  refine bcall (pc' := 39) rfl dX3_knows_36 rfl (trivial) (lcv (n := 3) rfl (pvc (lfv mt_X3_bitAt ⟨by decide, by decide⟩ mok_X3_bitAt ⟨by decide, by decide⟩ ⟨q2969, ln_255, Or.inl ⟨q2967, Or.inl qs94⟩⟩) (trivial)) (Or.inl (by decide))) (ihN rfl) rfl ?_
  refine bplain (pc' := 41) rfl dX3_knows_39 rfl (ihN rfl) rfl ?_
  refine bplain (pc' := 42) rfl dX3_knows_41 rfl (ihN rfl) rfl ?_
  refine bthr (pc' := 45) rfl dX3_knows_42 rfl (lkf0 q2610 lf_165) (trivial) (ihN rfl) rfl ?_
  refine bplain (pc' := 46) rfl dX3_knows_45 rfl (ihN rfl) rfl ?_
  refine bplain (pc' := 47) rfl dX3_knows_46 rfl (ihN rfl) rfl ?_
  refine bplain (pc' := 48) rfl dX3_knows_47 rfl (ihN rfl) rfl ?_
  refine bplain (pc' := 49) rfl dX3_knows_48 rfl (ihN rfl) rfl ?_
  refine bplain (pc' := 51) rfl dX3_knows_49 rfl (ihN rfl) rfl ?_
  refine bplain (pc' := 52) rfl dX3_knows_51 rfl (ihN rfl) rfl ?_
  refine bthr (pc' := 55) rfl dX3_knows_52 rfl (lkf0 q2605 lf_155) (trivial) (ihN rfl) rfl ?_
  refine bplain (pc' := 56) rfl dX3_knows_55 rfl (ihN rfl) rfl ?_
  refine bplain (pc' := 57) rfl dX3_knows_56 rfl (ihN rfl) rfl ?_
  refine bplain (pc' := 59) rfl dX3_knows_57 rfl (ihN rfl) rfl ?_
  refine bplain (pc' := 60) rfl dX3_knows_59 rfl (ihN rfl) rfl ?_
  refine bplain (pc' := 61) rfl dX3_knows_60 rfl (ihN rfl) rfl ?_
  refine bthr (pc' := 64) rfl dX3_knows_61 rfl (lkf0 q2622 lf_442) (trivial) (ihN rfl) rfl ?_
  refine bjmp (tg := 79) (pc' := 67) rfl (by decide) (by decide) rfl dX3_knows_64 rfl (ihN rfl) rfl ?_
  refine bplain (pc' := 69) rfl dX3_knows_67 rfl (ihN rfl) rfl ?_
  refine bjmp (tg := 83) (pc' := 72) rfl (by decide) (by decide) rfl dX3_knows_69 rfl (ihN rfl) rfl ?_
  refine bplain (pc' := 74) rfl dX3_knows_72 rfl (ihN rfl) rfl ?_
  refine bplain (pc' := 76) rfl dX3_knows_74 rfl (ihN rfl) rfl ?_
  refine bjmp (tg := 83) (pc' := 79) rfl (by decide) (by decide) rfl dX3_knows_76 rfl (ihN rfl) rfl ?_
  exact bnop0 rfl (by decide)
theorem bf_X3_knows_79 : BOKt mt tX3_knows 247 79 b_X3_knows_79 := by
  refine bnop1 ?_
  refine bplain (pc' := 80) rfl dX3_knows_79 rfl (ihN rfl) rfl ?_
  refine bjmp (tg := 84) (pc' := 83) rfl (by decide) (by decide) rfl dX3_knows_80 rfl (ihN rfl) rfl ?_
  exact trivial
theorem bf_X3_knows_83 : BOKt mt tX3_knows 247 83 b_X3_knows_83 := by
  refine bnop1 ?_
  refine bplain (pc' := 84) rfl dX3_knows_83 rfl (ihN rfl) rfl ?_
  exact bnop0 rfl (by decide)
theorem bf_X3_knows_84 : BOKt mt tX3_knows 247 84 b_X3_knows_84 := by
  refine bnop1 ?_
  refine bobj (pc' := 87) rfl dX3_knows_84 rfl (⟨lkf0 q2622 lf_442, lkp0 lp_443⟩) (ihN rfl) rfl ?_
  refine bplain (pc' := 88) rfl dX3_knows_87 rfl (ihN rfl) rfl ?_
  refine bthr (pc' := 91) rfl dX3_knows_88 rfl (lkf0 q2620 lf_179) (trivial) (ihN rfl) rfl ?_
  refine bplain (pc' := 93) rfl dX3_knows_91 rfl (ihN rfl) rfl ?_
  refine bplain (pc' := 94) rfl dX3_knows_93 rfl (ihN rfl) rfl ?_
  refine bplain (pc' := 95) rfl dX3_knows_94 rfl (ihN rfl) rfl ?_
  refine bplain (pc' := 97) rfl dX3_knows_95 rfl (ihN rfl) rfl ?_
  refine bplain (pc' := 98) rfl dX3_knows_97 rfl (ihN rfl) rfl ?_
  refine bplain (pc' := 100) rfl dX3_knows_98 rfl (ihN rfl) rfl ?_
  refine bplain (pc' := 101) rfl dX3_knows_100 rfl (ihN rfl) rfl ?_
  refine bplain (pc' := 102) rfl dX3_knows_101 rfl (ihN rfl) rfl ?_
  refine bplain (pc' := 103) rfl dX3_knows_102 rfl (ihN rfl) rfl ?_
  refine bplain (pc' := 105) rfl dX3_knows_103 rfl (ihN rfl) rfl ?_
  refine bplain (pc' := 106) rfl dX3_knows_105 rfl (ihN rfl) rfl ?_
  refine bplain (pc' := 107) rfl dX3_knows_106 rfl (ihN rfl) rfl ?_
  refine bplain (pc' := 108) rfl dX3_knows_107 rfl (ihN rfl) rfl ?_
  refine bthr (pc' := 111) rfl dX3_knows_108 rfl (lkf0 q2620 lf_179) (trivial) (ihN rfl) rfl ?_
  refine bplain (pc' := 113) rfl dX3_knows_111 rfl (ihN rfl) rfl ?_
  refine bplain (pc' := 114) rfl dX3_knows_113 rfl (ihN rfl) rfl ?_
  refine bplain (pc' := 115) rfl dX3_knows_114 rfl (ihN rfl) rfl ?_
  refine bplain (pc' := 117) rfl dX3_knows_115 rfl (ihN rfl) rfl ?_
  refine bplain (pc' := 118) rfl dX3_knows_117 rfl (ihN rfl) rfl ?_
  refine bplain (pc' := 120) rfl dX3_knows_118 rfl (ihN rfl) rfl ?_
  refine bplain (pc' := 121) rfl dX3_knows_120 rfl (ihN rfl) rfl ?_
  refine bplain (pc' := 122) rfl dX3_knows_121 rfl (ihN rfl) rfl ?_
  refine bplain (pc' := 123) rfl dX3_knows_122 rfl (ihN rfl) rfl ?_
  refine bplain (pc' := 125) rfl dX3_knows_123 rfl (ihN rfl) rfl ?_
  refine bplain (pc' := 127) rfl dX3_knows_125 rfl (ihN rfl) rfl ?_
  refine bjmp (tg := 137) (pc' := 130) rfl (by decide) (by decide) rfl dX3_knows_127 rfl (ihN rfl) rfl ?_
  refine bplain (pc' := 131) rfl dX3_knows_130 rfl (ihN rfl) rfl ?_
  refine bthr (pc' := 134) rfl dX3_knows_131 rfl (lkf0 q2622 lf_442) (trivial) (ihN rfl) rfl ?_
  refine bjmp (tg := 141) (pc' := 137) rfl (by decide) (by decide) rfl dX3_knows_134 rfl (ihN rfl) rfl ?_
  exact bnop0 rfl (by decide)
theorem bf_X3_knows_137 : BOKt mt tX3_knows 247 137 b_X3_knows_137 := by
  refine bnop1 ?_
  refine bplain (pc' := 138) rfl dX3_knows_137 rfl (ihN rfl) rfl ?_
  refine bjmp (tg := 143) (pc' := 141) rfl (by decide) (by decide) rfl dX3_knows_138 rfl (ihN rfl) rfl ?_
  exact trivial
theorem bf_X3_knows_141 : BOKt mt tX3_knows 247 141 b_X3_knows_141 := by
  refine bplain (pc' := 143) rfl dX3_knows_141 rfl (ihN rfl) rfl ?_
  exact bnop0 rfl (by decide)
theorem bf_X3_knows_143 : BOKt mt tX3_knows 247 143 b_X3_knows_143 := by
  refine bnop1 ?_
  refine bplain (pc' := 144) rfl dX3_knows_143 rfl (ihN rfl) rfl ?_
  refine bplain (pc' := 145) rfl dX3_knows_144 rfl (ihN rfl) rfl ?_
  refine bplain (pc' := 146) rfl dX3_knows_145 rfl (ihN rfl) rfl ?_
  refine bthr (pc' := 149) rfl dX3_knows_146 rfl (lkf0 q2621 lf_181) (trivial) (ihN rfl) rfl ?_
  refine bplain (pc' := 151) rfl dX3_knows_149 rfl (ihN rfl) rfl ?_
  refine bplain (pc' := 152) rfl dX3_knows_151 rfl (ihN rfl) rfl ?_
  refine bplain (pc' := 153) rfl dX3_knows_152 rfl (ihN rfl) rfl ?_
  refine bplain (pc' := 155) rfl dX3_knows_153 rfl (ihN rfl) rfl ?_
  refine bplain (pc' := 157) rfl dX3_knows_155 rfl (ihN rfl) rfl ?_
  refine bjmp (tg := 164) (pc' := 160) rfl (by decide) (by decide) rfl dX3_knows_157 rfl (ihN rfl) rfl ?_
  refine bplain (pc' := 161) rfl dX3_knows_160 rfl (ihN rfl) rfl ?_
  refine bjmp (tg := 166) (pc' := 164) rfl (by decide) (by decide) rfl dX3_knows_161 rfl (ihN rfl) rfl ?_
  exact trivial
theorem bf_X3_knows_164 : BOKt mt tX3_knows 247 164 b_X3_knows_164 := by
  refine bplain (pc' := 166) rfl dX3_knows_164 rfl (ihN rfl) rfl ?_
  exact bnop0 rfl (by decide)
theorem bf_X3_knows_166 : BOKt mt tX3_knows 247 166 b_X3_knows_166 := by
  refine bnop1 ?_
  refine bplain (pc' := 167) rfl dX3_knows_166 rfl (ihN rfl) rfl ?_
  refine bplain (pc' := 168) rfl dX3_knows_167 rfl (ihN rfl) rfl ?_
  refine bplain (pc' := 170) rfl dX3_knows_168 rfl (ihN rfl) rfl ?_
  refine bjmp (tg := 177) (pc' := 173) rfl (by decide) (by decide) rfl dX3_knows_170 rfl (ihN rfl) rfl ?_
  refine bplain (pc' := 174) rfl dX3_knows_173 rfl (ihN rfl) rfl ?_
  refine bjmp (tg := 178) (pc' := 177) rfl (by decide) (by decide) rfl dX3_knows_174 rfl (ihN rfl) rfl ?_
  exact trivial
theorem bf_X3_knows_177 : BOKt mt tX3_knows 247 177 b_X3_knows_177 := by
  refine bplain (pc' := 178) rfl dX3_knows_177 rfl (ihN rfl) rfl ?_
  exact bnop0 rfl (by decide)
theorem bf_X3_knows_178 : BOKt mt tX3_knows 247 178 b_X3_knows_178 := by
  refine bnop1 ?_
  refine bret (pc' := 179) rfl dX3_knows_178 rfl (Or.inr ⟨rfl, rfl⟩) (ihN rfl) rfl ?_
  exact trivial
theorem tf_X3_knows : ∀ x ∈ tb_X3_knows, BOK mt 247 x.1 x.2 := tb_c mt_X3_knows bf_X3_knows_0 (tb_c mt_X3_knows bf_X3_knows_28 (tb_c mt_X3_knows bf_X3_knows_30 (tb_c mt_X3_knows bf_X3_knows_79 (tb_c mt_X3_knows bf_X3_knows_83 (tb_c mt_X3_knows bf_X3_knows_84 (tb_c mt_X3_knows bf_X3_knows_137 (tb_c mt_X3_knows bf_X3_knows_141 (tb_c mt_X3_knows bf_X3_knows_143 (tb_c mt_X3_knows bf_X3_knows_164 (tb_c mt_X3_knows bf_X3_knows_166 (tb_c mt_X3_knows bf_X3_knows_177 (tb_c mt_X3_knows bf_X3_knows_178 (tb_n)))))))))))))
theorem bf_X3_findsTurn_0 : BOKt mt tX3_findsTurn 248 0 b_X3_findsTurn_0 := by
  refine bplain (pc' := 1) rfl dX3_findsTurn_0 rfl (ihN rfl) rfl ?_
  refine bplain (pc' := 2) rfl dX3_findsTurn_1 rfl (ihN rfl) rfl ?_
  refine bobj (pc' := 5) rfl dX3_findsTurn_2 rfl (⟨lkf0 q2622 lf_442, lkp0 lp_443⟩) (ihN rfl) rfl ?_
  refine bplain (pc' := 6) rfl dX3_findsTurn_5 rfl (ihN rfl) rfl ?_
  refine bplain (pc' := 7) rfl dX3_findsTurn_6 rfl (ihN rfl) rfl ?_
  exact bnop0 rfl (by decide)
theorem bf_X3_findsTurn_7 : BOKt mt tX3_findsTurn 248 7 b_X3_findsTurn_7 := by
  refine bnop1 ?_
  refine bplain (pc' := 8) rfl dX3_findsTurn_7 rfl (ihN rfl) rfl ?_
  refine bplain (pc' := 10) rfl dX3_findsTurn_8 rfl (ihN rfl) rfl ?_
  refine bjmp (tg := 26) (pc' := 13) rfl (by decide) (by decide) rfl dX3_findsTurn_10 rfl (ihN rfl) rfl ?_
  refine bplain (pc' := 14) rfl dX3_findsTurn_13 rfl (ihN rfl) rfl ?_
  refine bthr (pc' := 17) rfl dX3_findsTurn_14 rfl (lkf0 q2621 lf_181) (trivial) (ihN rfl) rfl ?_
  refine bplain (pc' := 18) rfl dX3_findsTurn_17 rfl (ihN rfl) rfl ?_
  refine bplain (pc' := 19) rfl dX3_findsTurn_18 rfl (ihN rfl) rfl ?_
  refine bplain (pc' := 20) rfl dX3_findsTurn_19 rfl (ihN rfl) rfl ?_
  refine bplain (pc' := 23) rfl dX3_findsTurn_20 rfl (ihN rfl) rfl ?_
  refine bjmp (tg := 7) (pc' := 26) rfl (by decide) (by decide) rfl dX3_findsTurn_23 rfl (ihN rfl) rfl ?_
  exact trivial
theorem bf_X3_findsTurn_26 : BOKt mt tX3_findsTurn 248 26 b_X3_findsTurn_26 := by
  refine bplain (pc' := 27) rfl dX3_findsTurn_26 rfl (ihN rfl) rfl ?_
  refine bplain (pc' := 28) rfl dX3_findsTurn_27 rfl (ihN rfl) rfl ?_
  refine bplain (pc' := 29) rfl dX3_findsTurn_28 rfl (ihN rfl) rfl ?_
  refine bplain (pc' := 30) rfl dX3_findsTurn_29 rfl (ihN rfl) rfl ?_
  exact bnop0 rfl (by decide)
theorem bf_X3_findsTurn_30 : BOKt mt tX3_findsTurn 248 30 b_X3_findsTurn_30 := by
  refine bnop1 ?_
  refine bplain (pc' := 31) rfl dX3_findsTurn_30 rfl (ihN rfl) rfl ?_
  refine bplain (pc' := 32) rfl dX3_findsTurn_31 rfl (ihN rfl) rfl ?_
  refine bthr (pc' := 35) rfl dX3_findsTurn_32 rfl (lkf0 q2604 lf_334) (trivial) (ihN rfl) rfl ?_
  refine bjmp (tg := 90) (pc' := 38) rfl (by decide) (by decide) rfl dX3_findsTurn_35 rfl (ihN rfl) rfl ?_
  refine bplain (pc' := 39) rfl dX3_findsTurn_38 rfl (ihN rfl) rfl ?_
  refine bjmp (tg := 90) (pc' := 42) rfl (by decide) (by decide) rfl dX3_findsTurn_39 rfl (ihN rfl) rfl ?_
  refine bplain (pc' := 43) rfl dX3_findsTurn_42 rfl (ihN rfl) rfl ?_
  refine bplain (pc' := 45) rfl dX3_findsTurn_43 rfl (ihN rfl) rfl ?_
  exact bnop0 rfl (by decide)
theorem bf_X3_findsTurn_45 : BOKt mt tX3_findsTurn 248 45 b_X3_findsTurn_45 := by
  refine bplain (pc' := 47) rfl dX3_findsTurn_45 rfl (ihN rfl) rfl ?_
  refine bplain (pc' := 48) rfl dX3_findsTurn_47 rfl (ihN rfl) rfl ?_
  refine bthr (pc' := 51) rfl dX3_findsTurn_48 rfl (lkf0 q2606 lf_157) (trivial) (ihN rfl) rfl ?_
  refine bplain (pc' := 52) rfl dX3_findsTurn_51 rfl (ihN rfl) rfl ?_
  refine bplain (pc' := 53) rfl dX3_findsTurn_52 rfl (ihN rfl) rfl ?_
  refine bjmp (tg := 84) (pc' := 56) rfl (by decide) (by decide) rfl dX3_findsTurn_53 rfl (ihN rfl) rfl ?_
  refine bplain (pc' := 57) rfl dX3_findsTurn_56 rfl (ihN rfl) rfl ?_
  refine bjmp (tg := 84) (pc' := 60) rfl (by decide) (by decide) rfl dX3_findsTurn_57 rfl (ihN rfl) rfl ?_
  refine bplain (pc' := 61) rfl dX3_findsTurn_60 rfl (ihN rfl) rfl ?_
  refine bplain (pc' := 62) rfl dX3_findsTurn_61 rfl (ihN rfl) rfl ?_
  refine bplain (pc' := 63) rfl dX3_findsTurn_62 rfl (ihN rfl) rfl ?_
  refine bcall (pc' := 66) rfl dX3_findsTurn_63 rfl (trivial) (lcv (n := 2) rfl (pvc (lfv mt_X3_isDone ⟨by decide, by decide⟩ mok_X3_isDone ⟨by decide, by decide⟩ ⟨q2865, ln_339, Or.inl ⟨q2863, Or.inl qs74⟩⟩) (trivial)) (Or.inl (by decide))) (ihN rfl) rfl ?_
  refine bjmp (tg := 84) (pc' := 69) rfl (by decide) (by decide) rfl dX3_findsTurn_66 rfl (ihN rfl) rfl ?_
  refine bplain (pc' := 70) rfl dX3_findsTurn_69 rfl (ihN rfl) rfl ?_
  refine bplain (pc' := 71) rfl dX3_findsTurn_70 rfl (ihN rfl) rfl ?_
  refine bplain (pc' := 72) rfl dX3_findsTurn_71 rfl (ihN rfl) rfl ?_
  refine bplain (pc' := 74) rfl dX3_findsTurn_72 rfl (ihN rfl) rfl ?_
  refine bcall (pc' := 77) rfl dX3_findsTurn_74 rfl (trivial) (lcv (n := 3) rfl (pvc (lfv mt_X3_knows ⟨by decide, by decide⟩ mok_X3_knows ⟨by decide, by decide⟩ ⟨q2961, ln_226, Or.inl ⟨q2959, Or.inl qs92⟩⟩) (trivial)) (Or.inl (by decide))) (ihN rfl) rfl ?_
  refine bplain (pc' := 78) rfl dX3_findsTurn_77 rfl (ihN rfl) rfl ?_
  refine bplain (pc' := 81) rfl dX3_findsTurn_78 rfl (ihN rfl) rfl ?_
  refine bjmp (tg := 45) (pc' := 84) rfl (by decide) (by decide) rfl dX3_findsTurn_81 rfl (ihN rfl) rfl ?_
  exact trivial
theorem bf_X3_findsTurn_84 : BOKt mt tX3_findsTurn 248 84 b_X3_findsTurn_84 := by
  refine bnop1 ?_
  refine bplain (pc' := 87) rfl dX3_findsTurn_84 rfl (ihN rfl) rfl ?_
  refine bjmp (tg := 30) (pc' := 90) rfl (by decide) (by decide) rfl dX3_findsTurn_87 rfl (ihN rfl) rfl ?_
  exact trivial
theorem bf_X3_findsTurn_90 : BOKt mt tX3_findsTurn 248 90 b_X3_findsTurn_90 := by
  refine bnop1 ?_
  refine bret (pc' := 91) rfl dX3_findsTurn_90 rfl (rfl) (ihN rfl) rfl ?_
  exact trivial
theorem tf_X3_findsTurn : ∀ x ∈ tb_X3_findsTurn, BOK mt 248 x.1 x.2 := tb_c mt_X3_findsTurn bf_X3_findsTurn_0 (tb_c mt_X3_findsTurn bf_X3_findsTurn_7 (tb_c mt_X3_findsTurn bf_X3_findsTurn_26 (tb_c mt_X3_findsTurn bf_X3_findsTurn_30 (tb_c mt_X3_findsTurn bf_X3_findsTurn_45 (tb_c mt_X3_findsTurn bf_X3_findsTurn_84 (tb_c mt_X3_findsTurn bf_X3_findsTurn_90 (tb_n)))))))
theorem bf_X3_findsSets_0 : BOKt mt tX3_findsSets 249 0 b_X3_findsSets_0 := by
  refine bplain (pc' := 1) rfl dX3_findsSets_0 rfl (ihN rfl) rfl ?_
  refine bplain (pc' := 2) rfl dX3_findsSets_1 rfl (ihN rfl) rfl ?_
  exact bnop0 rfl (by decide)
theorem bf_X3_findsSets_2 : BOKt mt tX3_findsSets 249 2 b_X3_findsSets_2 := by
  refine bplain (pc' := 3) rfl dX3_findsSets_2 rfl (ihN rfl) rfl ?_
  refine bplain (pc' := 6) rfl dX3_findsSets_3 rfl (ihN rfl) rfl ?_
  refine bjmp (tg := 22) (pc' := 9) rfl (by decide) (by decide) rfl dX3_findsSets_6 rfl (ihN rfl) rfl ?_
  refine bplain (pc' := 10) rfl dX3_findsSets_9 rfl (ihN rfl) rfl ?_
  refine bthr (pc' := 13) rfl dX3_findsSets_10 rfl (lkf0 q2620 lf_179) (trivial) (ihN rfl) rfl ?_
  refine bplain (pc' := 14) rfl dX3_findsSets_13 rfl (ihN rfl) rfl ?_
  refine bplain (pc' := 15) rfl dX3_findsSets_14 rfl (ihN rfl) rfl ?_
  refine bplain (pc' := 16) rfl dX3_findsSets_15 rfl (ihN rfl) rfl ?_
  refine bplain (pc' := 19) rfl dX3_findsSets_16 rfl (ihN rfl) rfl ?_
  refine bjmp (tg := 2) (pc' := 22) rfl (by decide) (by decide) rfl dX3_findsSets_19 rfl (ihN rfl) rfl ?_
  exact trivial
theorem bf_X3_findsSets_22 : BOKt mt tX3_findsSets 249 22 b_X3_findsSets_22 := by
  refine bplain (pc' := 23) rfl dX3_findsSets_22 rfl (ihN rfl) rfl ?_
  refine bplain (pc' := 24) rfl dX3_findsSets_23 rfl (ihN rfl) rfl ?_
  exact bnop0 rfl (by decide)
theorem bf_X3_findsSets_24 : BOKt mt tX3_findsSets 249 24 b_X3_findsSets_24 := by
  refine bplain (pc' := 25) rfl dX3_findsSets_24 rfl (ihN rfl) rfl ?_
  refine bplain (pc' := 26) rfl dX3_findsSets_25 rfl (ihN rfl) rfl ?_
  refine bthr (pc' := 29) rfl dX3_findsSets_26 rfl (lkf0 q2603 lf_274) (trivial) (ihN rfl) rfl ?_
  refine bjmp (tg := 43) (pc' := 32) rfl (by decide) (by decide) rfl dX3_findsSets_29 rfl (ihN rfl) rfl ?_
  refine bplain (pc' := 33) rfl dX3_findsSets_32 rfl (ihN rfl) rfl ?_
  refine bplain (pc' := 34) rfl dX3_findsSets_33 rfl (ihN rfl) rfl ?_
  refine bcall (pc' := 37) rfl dX3_findsSets_34 rfl (trivial) (lcv (n := 1) rfl (pvc (lfv mt_X3_findsTurn ⟨by decide, by decide⟩ mok_X3_findsTurn ⟨by decide, by decide⟩ ⟨q2957, ln_115, Or.inl ⟨q2955, Or.inl qs91⟩⟩) (trivial)) (Or.inl (by decide))) (ihN rfl) rfl ?_
  refine bplain (pc' := 40) rfl dX3_findsSets_37 rfl (ihN rfl) rfl ?_
  refine bjmp (tg := 24) (pc' := 43) rfl (by decide) (by decide) rfl dX3_findsSets_40 rfl (ihN rfl) rfl ?_
  exact trivial
theorem bf_X3_findsSets_43 : BOKt mt tX3_findsSets 249 43 b_X3_findsSets_43 := by
  refine bret (pc' := 44) rfl dX3_findsSets_43 rfl (rfl) (ihN rfl) rfl ?_
  exact trivial
theorem tf_X3_findsSets : ∀ x ∈ tb_X3_findsSets, BOK mt 249 x.1 x.2 := tb_c mt_X3_findsSets bf_X3_findsSets_0 (tb_c mt_X3_findsSets bf_X3_findsSets_2 (tb_c mt_X3_findsSets bf_X3_findsSets_22 (tb_c mt_X3_findsSets bf_X3_findsSets_24 (tb_c mt_X3_findsSets bf_X3_findsSets_43 (tb_n)))))
theorem bf_X3_bitsOfTurn_0 : BOKt mt tX3_bitsOfTurn 250 0 b_X3_bitsOfTurn_0 := by
  refine bplain (pc' := 1) rfl dX3_bitsOfTurn_0 rfl (ihN rfl) rfl ?_
  refine bthr (pc' := 4) rfl dX3_bitsOfTurn_1 rfl (lkf0 q2620 lf_179) (trivial) (ihN rfl) rfl ?_
  refine bplain (pc' := 6) rfl dX3_bitsOfTurn_4 rfl (ihN rfl) rfl ?_
  refine bplain (pc' := 7) rfl dX3_bitsOfTurn_6 rfl (ihN rfl) rfl ?_
  refine bplain (pc' := 8) rfl dX3_bitsOfTurn_7 rfl (ihN rfl) rfl ?_
  refine bplain (pc' := 10) rfl dX3_bitsOfTurn_8 rfl (ihN rfl) rfl ?_
  refine bplain (pc' := 11) rfl dX3_bitsOfTurn_10 rfl (ihN rfl) rfl ?_
  refine bplain (pc' := 12) rfl dX3_bitsOfTurn_11 rfl (ihN rfl) rfl ?_
  refine bplain (pc' := 13) rfl dX3_bitsOfTurn_12 rfl (ihN rfl) rfl ?_
  refine bplain (pc' := 14) rfl dX3_bitsOfTurn_13 rfl (ihN rfl) rfl ?_
  refine bplain (pc' := 15) rfl dX3_bitsOfTurn_14 rfl (ihN rfl) rfl ?_
  refine bplain (pc' := 16) rfl dX3_bitsOfTurn_15 rfl (ihN rfl) rfl ?_
  refine bret (pc' := 17) rfl dX3_bitsOfTurn_16 rfl (Or.inl ⟨rfl, rfl⟩) (ihN rfl) rfl ?_
  exact trivial
theorem tf_X3_bitsOfTurn : ∀ x ∈ tb_X3_bitsOfTurn, BOK mt 250 x.1 x.2 := tb_c mt_X3_bitsOfTurn bf_X3_bitsOfTurn_0 (tb_n)
theorem bf_X3_bitsOfSet_0 : BOKt mt tX3_bitsOfSet 251 0 b_X3_bitsOfSet_0 := by
  refine bplain (pc' := 1) rfl dX3_bitsOfSet_0 rfl (ihN rfl) rfl ?_
  refine bcall (pc' := 4) rfl dX3_bitsOfSet_1 rfl (trivial) (lcv (n := 0) rfl (pvc (lfv mt_X3_findsSets ⟨by decide, by decide⟩ mok_X3_findsSets ⟨by decide, by decide⟩ ⟨q2953, ln_0, Or.inl ⟨q2951, Or.inl qs90⟩⟩) (trivial)) (Or.inl (by decide))) (ihN rfl) rfl ?_
  refine bplain (pc' := 5) rfl dX3_bitsOfSet_4 rfl (ihN rfl) rfl ?_
  refine bplain (pc' := 7) rfl dX3_bitsOfSet_5 rfl (ihN rfl) rfl ?_
  refine bplain (pc' := 8) rfl dX3_bitsOfSet_7 rfl (ihN rfl) rfl ?_
  refine bplain (pc' := 10) rfl dX3_bitsOfSet_8 rfl (ihN rfl) rfl ?_
  exact bnop0 rfl (by decide)
theorem bf_X3_bitsOfSet_10 : BOKt mt tX3_bitsOfSet 251 10 b_X3_bitsOfSet_10 := by
  refine bplain (pc' := 12) rfl dX3_bitsOfSet_10 rfl (ihN rfl) rfl ?_
  refine bplain (pc' := 13) rfl dX3_bitsOfSet_12 rfl (ihN rfl) rfl ?_
  refine bthr (pc' := 16) rfl dX3_bitsOfSet_13 rfl (lkf0 q2603 lf_274) (trivial) (ihN rfl) rfl ?_
  refine bjmp (tg := 53) (pc' := 19) rfl (by decide) (by decide) rfl dX3_bitsOfSet_16 rfl (ihN rfl) rfl ?_
  refine bplain (pc' := 21) rfl dX3_bitsOfSet_19 rfl (ihN rfl) rfl ?_
  refine bplain (pc' := 22) rfl dX3_bitsOfSet_21 rfl (ihN rfl) rfl ?_
  refine bplain (pc' := 23) rfl dX3_bitsOfSet_22 rfl (ihN rfl) rfl ?_
  refine bjmp (tg := 32) (pc' := 26) rfl (by decide) (by decide) rfl dX3_bitsOfSet_23 rfl (ihN rfl) rfl ?_
  refine bplain (pc' := 27) rfl dX3_bitsOfSet_26 rfl (ihN rfl) rfl ?_
  refine bplain (pc' := 29) rfl dX3_bitsOfSet_27 rfl (ihN rfl) rfl ?_
  refine bjmp (tg := 43) (pc' := 32) rfl (by decide) (by decide) rfl dX3_bitsOfSet_29 rfl (ihN rfl) rfl ?_
  exact bnop0 rfl (by decide)
theorem bf_X3_bitsOfSet_32 : BOKt mt tX3_bitsOfSet 251 32 b_X3_bitsOfSet_32 := by
  refine bnop1 ?_
  refine bplain (pc' := 33) rfl dX3_bitsOfSet_32 rfl (ihN rfl) rfl ?_
  refine bplain (pc' := 34) rfl dX3_bitsOfSet_33 rfl (ihN rfl) rfl ?_
  refine bplain (pc' := 35) rfl dX3_bitsOfSet_34 rfl (ihN rfl) rfl ?_
  refine bplain (pc' := 37) rfl dX3_bitsOfSet_35 rfl (ihN rfl) rfl ?_
  refine bcall (pc' := 40) rfl dX3_bitsOfSet_37 rfl (trivial) (lcv (n := 3) rfl (pvc (lfv mt_X3_bitsOfTurn ⟨by decide, by decide⟩ mok_X3_bitsOfTurn ⟨by decide, by decide⟩ ⟨q2973, ln_255, Or.inl ⟨q2971, Or.inl qs95⟩⟩) (trivial)) (Or.inl (by decide))) (ihN rfl) rfl ?_
  refine bjmp (tg := 44) (pc' := 43) rfl (by decide) (by decide) rfl dX3_bitsOfSet_40 rfl (ihN rfl) rfl ?_
  exact trivial
theorem bf_X3_bitsOfSet_43 : BOKt mt tX3_bitsOfSet 251 43 b_X3_bitsOfSet_43 := by
  refine bplain (pc' := 44) rfl dX3_bitsOfSet_43 rfl (ihN rfl) rfl ?_
  exact bnop0 rfl (by decide)
theorem bf_X3_bitsOfSet_44 : BOKt mt tX3_bitsOfSet 251 44 b_X3_bitsOfSet_44 := by
  refine bnop1 ?_
  refine bplain (pc' := 45) rfl dX3_bitsOfSet_44 rfl (ihN rfl) rfl ?_
  refine bplain (pc' := 47) rfl dX3_bitsOfSet_45 rfl (ihN rfl) rfl ?_
  refine bplain (pc' := 50) rfl dX3_bitsOfSet_47 rfl (ihN rfl) rfl ?_
  refine bjmp (tg := 10) (pc' := 53) rfl (by decide) (by decide) rfl dX3_bitsOfSet_50 rfl (ihN rfl) rfl ?_
  exact trivial
theorem bf_X3_bitsOfSet_53 : BOKt mt tX3_bitsOfSet 251 53 b_X3_bitsOfSet_53 := by
  refine bplain (pc' := 55) rfl dX3_bitsOfSet_53 rfl (ihN rfl) rfl ?_
  refine bret (pc' := 56) rfl dX3_bitsOfSet_55 rfl (Or.inl ⟨rfl, rfl⟩) (ihN rfl) rfl ?_
  exact trivial
theorem tf_X3_bitsOfSet : ∀ x ∈ tb_X3_bitsOfSet, BOK mt 251 x.1 x.2 := tb_c mt_X3_bitsOfSet bf_X3_bitsOfSet_0 (tb_c mt_X3_bitsOfSet bf_X3_bitsOfSet_10 (tb_c mt_X3_bitsOfSet bf_X3_bitsOfSet_32 (tb_c mt_X3_bitsOfSet bf_X3_bitsOfSet_43 (tb_c mt_X3_bitsOfSet bf_X3_bitsOfSet_44 (tb_c mt_X3_bitsOfSet bf_X3_bitsOfSet_53 (tb_n))))))
theorem bf_X3_size_0 : BOKt mt tX3_size 252 0 b_X3_size_0 := by
  refine bplain (pc' := 1) rfl dX3_size_0 rfl (ihN rfl) rfl ?_
  refine bplain (pc' := 2) rfl dX3_size_1 rfl (ihN rfl) rfl ?_
  refine bplain (pc' := 3) rfl dX3_size_2 rfl (ihN rfl) rfl ?_
  refine bplain (pc' := 4) rfl dX3_size_3 rfl (ihN rfl) rfl ?_
  exact bnop0 rfl (by decide)
theorem bf_X3_size_4 : BOKt mt tX3_size 252 4 b_X3_size_4 := by
  refine bplain (pc' := 5) rfl dX3_size_4 rfl (ihN rfl) rfl ?_
  refine bplain (pc' := 7) rfl dX3_size_5 rfl (ihN rfl) rfl ?_
  refine bjmp (tg := 24) (pc' := 10) rfl (by decide) (by decide) rfl dX3_size_7 rfl (ihN rfl) rfl ?_
  refine bplain (pc' := 11) rfl dX3_size_10 rfl (ihN rfl) rfl ?_
  refine bplain (pc' := 12) rfl dX3_size_11 rfl (ihN rfl) rfl ?_
  refine bplain (pc' := 13) rfl dX3_size_12 rfl (ihN rfl) rfl ?_
  refine bplain (pc' := 14) rfl dX3_size_13 rfl (ihN rfl) rfl ?_
  refine bplain (pc' := 15) rfl dX3_size_14 rfl (ihN rfl) rfl ?_
  refine bplain (pc' := 16) rfl dX3_size_15 rfl (ihN rfl) rfl ?_
  refine bplain (pc' := 17) rfl dX3_size_16 rfl (ihN rfl) rfl ?_
  refine bplain (pc' := 18) rfl dX3_size_17 rfl (ihN rfl) rfl ?_
  refine bplain (pc' := 21) rfl dX3_size_18 rfl (ihN rfl) rfl ?_
  refine bjmp (tg := 4) (pc' := 24) rfl (by decide) (by decide) rfl dX3_size_21 rfl (ihN rfl) rfl ?_
  exact trivial
theorem bf_X3_size_24 : BOKt mt tX3_size 252 24 b_X3_size_24 := by
  refine bplain (pc' := 25) rfl dX3_size_24 rfl (ihN rfl) rfl ?_
  refine bret (pc' := 26) rfl dX3_size_25 rfl (Or.inl ⟨rfl, rfl⟩) (ihN rfl) rfl ?_
  exact trivial
theorem tf_X3_size : ∀ x ∈ tb_X3_size, BOK mt 252 x.1 x.2 := tb_c mt_X3_size bf_X3_size_0 (tb_c mt_X3_size bf_X3_size_4 (tb_c mt_X3_size bf_X3_size_24 (tb_n)))
theorem bf_X3_many_0 : BOKt mt tX3_many 253 0 b_X3_many_0 := by
  refine bplain (pc' := 1) rfl dX3_many_0 rfl (ihN rfl) rfl ?_
  refine bplain (pc' := 2) rfl dX3_many_1 rfl (ihN rfl) rfl ?_
  refine bplain (pc' := 3) rfl dX3_many_2 rfl (ihN rfl) rfl ?_
  refine bplain (pc' := 4) rfl dX3_many_3 rfl (ihN rfl) rfl ?_
  refine bcall (pc' := 7) rfl dX3_many_4 rfl (trivial) (lcv (n := 3) rfl (pvc (lfv mt_X3_isSet ⟨by decide, by decide⟩ mok_X3_isSet ⟨by decide, by decide⟩ ⟨q2945, ln_226, Or.inl ⟨q2943, Or.inl qs88⟩⟩) (trivial)) (Or.inl (by decide))) (ihN rfl) rfl ?_
  refine bjmp (tg := 23) (pc' := 10) rfl (by decide) (by decide) rfl dX3_many_7 rfl (ihN rfl) rfl ?_
  refine bplain (pc' := 11) rfl dX3_many_10 rfl (ihN rfl) rfl ?_
  refine bplain (pc' := 12) rfl dX3_many_11 rfl (ihN rfl) rfl ?_
  refine bplain (pc' := 13) rfl dX3_many_12 rfl (ihN rfl) rfl ?_
  refine bplain (pc' := 14) rfl dX3_many_13 rfl (ihN rfl) rfl ?_
  refine bcall (pc' := 17) rfl dX3_many_14 rfl (trivial) (lcv (n := 3) rfl (pvc (lfv mt_X3_bitsOfSet ⟨by decide, by decide⟩ mok_X3_bitsOfSet ⟨by decide, by decide⟩ ⟨q2949, ln_255, Or.inl ⟨q2947, Or.inl qs89⟩⟩) (trivial)) (Or.inl (by decide))) (ihN rfl) rfl ?_
  refine bcall (pc' := 20) rfl dX3_many_17 rfl (trivial) (lcs (l := q2976) mt_X3_size ⟨by decide, by decide⟩ mok_X3_size rfl ln_225 (Or.inl q2975)) (ihN rfl) rfl ?_
  refine bjmp (tg := 25) (pc' := 23) rfl (by decide) (by decide) rfl dX3_many_20 rfl (ihN rfl) rfl ?_
  exact trivial
theorem bf_X3_many_23 : BOKt mt tX3_many 253 23 b_X3_many_23 := by
  refine bplain (pc' := 25) rfl dX3_many_23 rfl (ihN rfl) rfl ?_
  exact bnop0 rfl (by decide)
theorem bf_X3_many_25 : BOKt mt tX3_many 253 25 b_X3_many_25 := by
  refine bnop1 ?_
  refine bret (pc' := 26) rfl dX3_many_25 rfl (Or.inl ⟨rfl, rfl⟩) (ihN rfl) rfl ?_
  exact trivial
theorem tf_X3_many : ∀ x ∈ tb_X3_many, BOK mt 253 x.1 x.2 := tb_c mt_X3_many bf_X3_many_0 (tb_c mt_X3_many bf_X3_many_23 (tb_c mt_X3_many bf_X3_many_25 (tb_n)))
theorem bf_J11_numberOfTrailingZeros_0 : BOKt mt tJ11_numberOfTrailingZeros 254 0 b_J11_numberOfTrailingZeros_0 := by
  refine bplain (pc' := 1) rfl dJ11_numberOfTrailingZeros_0 rfl (ihN rfl) rfl ?_
  refine bplain (pc' := 2) rfl dJ11_numberOfTrailingZeros_1 rfl (ihN rfl) rfl ?_
  refine bplain (pc' := 3) rfl dJ11_numberOfTrailingZeros_2 rfl (ihN rfl) rfl ?_
  refine bplain (pc' := 4) rfl dJ11_numberOfTrailingZeros_3 rfl (ihN rfl) rfl ?_
  refine bplain (pc' := 5) rfl dJ11_numberOfTrailingZeros_4 rfl (ihN rfl) rfl ?_
  refine bplain (pc' := 6) rfl dJ11_numberOfTrailingZeros_5 rfl (ihN rfl) rfl ?_
  refine bplain (pc' := 7) rfl dJ11_numberOfTrailingZeros_6 rfl (ihN rfl) rfl ?_
  refine bplain (pc' := 8) rfl dJ11_numberOfTrailingZeros_7 rfl (ihN rfl) rfl ?_
  refine bplain (pc' := 9) rfl dJ11_numberOfTrailingZeros_8 rfl (ihN rfl) rfl ?_
  refine bjmp (tg := 17) (pc' := 12) rfl (by decide) (by decide) rfl dJ11_numberOfTrailingZeros_9 rfl (ihN rfl) rfl ?_
  refine bplain (pc' := 13) rfl dJ11_numberOfTrailingZeros_12 rfl (ihN rfl) rfl ?_
  refine bplain (pc' := 15) rfl dJ11_numberOfTrailingZeros_13 rfl (ihN rfl) rfl ?_
  refine bplain (pc' := 16) rfl dJ11_numberOfTrailingZeros_15 rfl (ihN rfl) rfl ?_
  refine bret (pc' := 17) rfl dJ11_numberOfTrailingZeros_16 rfl (Or.inl ⟨rfl, rfl⟩) (ihN rfl) rfl ?_
  exact trivial
theorem bf_J11_numberOfTrailingZeros_17 : BOKt mt tJ11_numberOfTrailingZeros 254 17 b_J11_numberOfTrailingZeros_17 := by
  refine bplain (pc' := 18) rfl dJ11_numberOfTrailingZeros_17 rfl (ihN rfl) rfl ?_
  refine bplain (pc' := 19) rfl dJ11_numberOfTrailingZeros_18 rfl (ihN rfl) rfl ?_
  refine bplain (pc' := 20) rfl dJ11_numberOfTrailingZeros_19 rfl (ihN rfl) rfl ?_
  refine bobj (pc' := 23) rfl dJ11_numberOfTrailingZeros_20 rfl (lkl0 lc_444 q625) (ihN rfl) rfl ?_
  refine bjmp (tg := 34) (pc' := 26) rfl (by decide) (by decide) rfl dJ11_numberOfTrailingZeros_23 rfl (ihN rfl) rfl ?_
  refine bplain (pc' := 29) rfl dJ11_numberOfTrailingZeros_26 rfl (ihN rfl) rfl ?_
  refine bplain (pc' := 30) rfl dJ11_numberOfTrailingZeros_29 rfl (ihN rfl) rfl ?_
  refine bplain (pc' := 32) rfl dJ11_numberOfTrailingZeros_30 rfl (ihN rfl) rfl ?_
  refine bplain (pc' := 33) rfl dJ11_numberOfTrailingZeros_32 rfl (ihN rfl) rfl ?_
  refine bplain (pc' := 34) rfl dJ11_numberOfTrailingZeros_33 rfl (ihN rfl) rfl ?_
  exact bnop0 rfl (by decide)
theorem bf_J11_numberOfTrailingZeros_34 : BOKt mt tJ11_numberOfTrailingZeros 254 34 b_J11_numberOfTrailingZeros_34 := by
  refine bplain (pc' := 35) rfl dJ11_numberOfTrailingZeros_34 rfl (ihN rfl) rfl ?_
  refine bplain (pc' := 38) rfl dJ11_numberOfTrailingZeros_35 rfl (ihN rfl) rfl ?_
  refine bjmp (tg := 49) (pc' := 41) rfl (by decide) (by decide) rfl dJ11_numberOfTrailingZeros_38 rfl (ihN rfl) rfl ?_
  refine bplain (pc' := 44) rfl dJ11_numberOfTrailingZeros_41 rfl (ihN rfl) rfl ?_
  refine bplain (pc' := 45) rfl dJ11_numberOfTrailingZeros_44 rfl (ihN rfl) rfl ?_
  refine bplain (pc' := 47) rfl dJ11_numberOfTrailingZeros_45 rfl (ihN rfl) rfl ?_
  refine bplain (pc' := 48) rfl dJ11_numberOfTrailingZeros_47 rfl (ihN rfl) rfl ?_
  refine bplain (pc' := 49) rfl dJ11_numberOfTrailingZeros_48 rfl (ihN rfl) rfl ?_
  exact bnop0 rfl (by decide)
theorem bf_J11_numberOfTrailingZeros_49 : BOKt mt tJ11_numberOfTrailingZeros 254 49 b_J11_numberOfTrailingZeros_49 := by
  refine bplain (pc' := 50) rfl dJ11_numberOfTrailingZeros_49 rfl (ihN rfl) rfl ?_
  refine bplain (pc' := 52) rfl dJ11_numberOfTrailingZeros_50 rfl (ihN rfl) rfl ?_
  refine bjmp (tg := 62) (pc' := 55) rfl (by decide) (by decide) rfl dJ11_numberOfTrailingZeros_52 rfl (ihN rfl) rfl ?_
  refine bplain (pc' := 58) rfl dJ11_numberOfTrailingZeros_55 rfl (ihN rfl) rfl ?_
  refine bplain (pc' := 59) rfl dJ11_numberOfTrailingZeros_58 rfl (ihN rfl) rfl ?_
  refine bplain (pc' := 60) rfl dJ11_numberOfTrailingZeros_59 rfl (ihN rfl) rfl ?_
  refine bplain (pc' := 61) rfl dJ11_numberOfTrailingZeros_60 rfl (ihN rfl) rfl ?_
  refine bplain (pc' := 62) rfl dJ11_numberOfTrailingZeros_61 rfl (ihN rfl) rfl ?_
  exact bnop0 rfl (by decide)
theorem bf_J11_numberOfTrailingZeros_62 : BOKt mt tJ11_numberOfTrailingZeros 254 62 b_J11_numberOfTrailingZeros_62 := by
  refine bplain (pc' := 63) rfl dJ11_numberOfTrailingZeros_62 rfl (ihN rfl) rfl ?_
  refine bplain (pc' := 64) rfl dJ11_numberOfTrailingZeros_63 rfl (ihN rfl) rfl ?_
  refine bjmp (tg := 74) (pc' := 67) rfl (by decide) (by decide) rfl dJ11_numberOfTrailingZeros_64 rfl (ihN rfl) rfl ?_
  refine bplain (pc' := 70) rfl dJ11_numberOfTrailingZeros_67 rfl (ihN rfl) rfl ?_
  refine bplain (pc' := 71) rfl dJ11_numberOfTrailingZeros_70 rfl (ihN rfl) rfl ?_
  refine bplain (pc' := 72) rfl dJ11_numberOfTrailingZeros_71 rfl (ihN rfl) rfl ?_
  refine bplain (pc' := 73) rfl dJ11_numberOfTrailingZeros_72 rfl (ihN rfl) rfl ?_
  refine bplain (pc' := 74) rfl dJ11_numberOfTrailingZeros_73 rfl (ihN rfl) rfl ?_
  exact bnop0 rfl (by decide)
theorem bf_J11_numberOfTrailingZeros_74 : BOKt mt tJ11_numberOfTrailingZeros 254 74 b_J11_numberOfTrailingZeros_74 := by
  refine bplain (pc' := 75) rfl dJ11_numberOfTrailingZeros_74 rfl (ihN rfl) rfl ?_
  refine bplain (pc' := 76) rfl dJ11_numberOfTrailingZeros_75 rfl (ihN rfl) rfl ?_
  refine bplain (pc' := 77) rfl dJ11_numberOfTrailingZeros_76 rfl (ihN rfl) rfl ?_
  refine bplain (pc' := 78) rfl dJ11_numberOfTrailingZeros_77 rfl (ihN rfl) rfl ?_
  refine bplain (pc' := 79) rfl dJ11_numberOfTrailingZeros_78 rfl (ihN rfl) rfl ?_
  refine bret (pc' := 80) rfl dJ11_numberOfTrailingZeros_79 rfl (Or.inl ⟨rfl, rfl⟩) (ihN rfl) rfl ?_
  exact trivial
theorem tf_J11_numberOfTrailingZeros : ∀ x ∈ tb_J11_numberOfTrailingZeros, BOK mt 254 x.1 x.2 := tb_c mt_J11_numberOfTrailingZeros bf_J11_numberOfTrailingZeros_0 (tb_c mt_J11_numberOfTrailingZeros bf_J11_numberOfTrailingZeros_17 (tb_c mt_J11_numberOfTrailingZeros bf_J11_numberOfTrailingZeros_34 (tb_c mt_J11_numberOfTrailingZeros bf_J11_numberOfTrailingZeros_49 (tb_c mt_J11_numberOfTrailingZeros bf_J11_numberOfTrailingZeros_62 (tb_c mt_J11_numberOfTrailingZeros bf_J11_numberOfTrailingZeros_74 (tb_n))))))
theorem bf_J10_numberOfTrailingZeros_0 : BOKt mt tJ10_numberOfTrailingZeros 255 0 b_J10_numberOfTrailingZeros_0 := by
  refine bplain (pc' := 1) rfl dJ10_numberOfTrailingZeros_0 rfl (ihN rfl) rfl ?_
  refine bplain (pc' := 2) rfl dJ10_numberOfTrailingZeros_1 rfl (ihN rfl) rfl ?_
  refine bplain (pc' := 3) rfl dJ10_numberOfTrailingZeros_2 rfl (ihN rfl) rfl ?_
  refine bplain (pc' := 4) rfl dJ10_numberOfTrailingZeros_3 rfl (ihN rfl) rfl ?_
  refine bjmp (tg := 21) (pc' := 7) rfl (by decide) (by decide) rfl dJ10_numberOfTrailingZeros_4 rfl (ihN rfl) rfl ?_
  refine bplain (pc' := 9) rfl dJ10_numberOfTrailingZeros_7 rfl (ihN rfl) rfl ?_
  refine bplain (pc' := 10) rfl dJ10_numberOfTrailingZeros_9 rfl (ihN rfl) rfl ?_
  refine bplain (pc' := 12) rfl dJ10_numberOfTrailingZeros_10 rfl (ihN rfl) rfl ?_
  refine bplain (pc' := 13) rfl dJ10_numberOfTrailingZeros_12 rfl (ihN rfl) rfl ?_
  refine bplain (pc' := 14) rfl dJ10_numberOfTrailingZeros_13 rfl (ihN rfl) rfl ?_
  refine bcall (pc' := 17) rfl dJ10_numberOfTrailingZeros_14 rfl (trivial) (lcs (l := q632) mt_J11_numberOfTrailingZeros ⟨by decide, by decide⟩ mok_J11_numberOfTrailingZeros rfl ln_225 (Or.inl q631)) (ihN rfl) rfl ?_
  refine bplain (pc' := 18) rfl dJ10_numberOfTrailingZeros_17 rfl (ihN rfl) rfl ?_
  refine bjmp (tg := 25) (pc' := 21) rfl (by decide) (by decide) rfl dJ10_numberOfTrailingZeros_18 rfl (ihN rfl) rfl ?_
  exact trivial
theorem bf_J10_numberOfTrailingZeros_21 : BOKt mt tJ10_numberOfTrailingZeros 255 21 b_J10_numberOfTrailingZeros_21 := by
  refine bplain (pc' := 22) rfl dJ10_numberOfTrailingZeros_21 rfl (ihN rfl) rfl ?_
  refine bcall (pc' := 25) rfl dJ10_numberOfTrailingZeros_22 rfl (trivial) (lcs (l := q632) mt_J11_numberOfTrailingZeros ⟨by decide, by decide⟩ mok_J11_numberOfTrailingZeros rfl ln_225 (Or.inl q631)) (ihN rfl) rfl ?_
  exact bnop0 rfl (by decide)
theorem bf_J10_numberOfTrailingZeros_25 : BOKt mt tJ10_numberOfTrailingZeros 255 25 b_J10_numberOfTrailingZeros_25 := by
  refine bnop1 ?_
  refine bret (pc' := 26) rfl dJ10_numberOfTrailingZeros_25 rfl (Or.inl ⟨rfl, rfl⟩) (ihN rfl) rfl ?_
  exact trivial
theorem tf_J10_numberOfTrailingZeros : ∀ x ∈ tb_J10_numberOfTrailingZeros, BOK mt 255 x.1 x.2 := tb_c mt_J10_numberOfTrailingZeros bf_J10_numberOfTrailingZeros_0 (tb_c mt_J10_numberOfTrailingZeros bf_J10_numberOfTrailingZeros_21 (tb_c mt_J10_numberOfTrailingZeros bf_J10_numberOfTrailingZeros_25 (tb_n)))
theorem bf_X0_piece_0 : BOKt mt tX0_piece 256 0 b_X0_piece_0 := by
  refine bplain (pc' := 1) rfl dX0_piece_0 rfl (ihN rfl) rfl ?_
  refine bcall (pc' := 4) rfl dX0_piece_1 rfl (trivial) (lcs (l := q629) mt_J10_numberOfTrailingZeros ⟨by decide, by decide⟩ mok_J10_numberOfTrailingZeros rfl ln_441 (Or.inl q2280)) (ihN rfl) rfl ?_
  refine bplain (pc' := 5) rfl dX0_piece_4 rfl (ihN rfl) rfl ?_
  refine bplain (pc' := 6) rfl dX0_piece_5 rfl (ihN rfl) rfl ?_
  refine bplain (pc' := 7) rfl dX0_piece_6 rfl (ihN rfl) rfl ?_
  refine bplain (pc' := 8) rfl dX0_piece_7 rfl (ihN rfl) rfl ?_
  refine bplain (pc' := 9) rfl dX0_piece_8 rfl (ihN rfl) rfl ?_
  refine bplain (pc' := 10) rfl dX0_piece_9 rfl (ihN rfl) rfl ?_
  refine bplain (pc' := 11) rfl dX0_piece_10 rfl (ihN rfl) rfl ?_
  refine bplain (pc' := 12) rfl dX0_piece_11 rfl (ihN rfl) rfl ?_
  refine bplain (pc' := 13) rfl dX0_piece_12 rfl (ihN rfl) rfl ?_
  refine bplain (pc' := 14) rfl dX0_piece_13 rfl (ihN rfl) rfl ?_
  refine bjmp (tg := 28) (pc' := 17) rfl (by decide) (by decide) rfl dX0_piece_14 rfl (ihN rfl) rfl ?_
  refine bthr (pc' := 20) rfl dX0_piece_17 rfl (⟨⟨by decide, by decide, by decide⟩, rfl, q2281, q1930, q179⟩) (trivial) (ihN rfl) rfl ?_
  refine bplain (pc' := 21) rfl dX0_piece_20 rfl (ihN rfl) rfl ?_
  refine bplain (pc' := 22) rfl dX0_piece_21 rfl (ihN rfl) rfl ?_
  refine bplain (pc' := 23) rfl dX0_piece_22 rfl (ihN rfl) rfl ?_
  refine bplain (pc' := 24) rfl dX0_piece_23 rfl (ihN rfl) rfl ?_
  refine bcall (pc' := 27) rfl dX0_piece_24 rfl (trivial) (lci mt_X8_init ⟨by decide, by decide⟩ mok_X8_init rfl rfl rfl ln_237 q1936 rfl (Or.inl q2282)) (ihN rfl) rfl ?_
  refine bret (pc' := 28) rfl dX0_piece_27 rfl (⟨_, rfl, Or.inl ⟨_, rfl⟩⟩) (ihN rfl) rfl ?_
  exact trivial
theorem bf_X0_piece_28 : BOKt mt tX0_piece 256 28 b_X0_piece_28 := by
  refine bplain (pc' := 29) rfl dX0_piece_28 rfl (ihN rfl) rfl ?_
  refine bcall (pc' := 32) rfl dX0_piece_29 rfl (trivial) (lcs (l := q629) mt_J10_numberOfTrailingZeros ⟨by decide, by decide⟩ mok_J10_numberOfTrailingZeros rfl ln_441 (Or.inl q2280)) (ihN rfl) rfl ?_
  refine bplain (pc' := 33) rfl dX0_piece_32 rfl (ihN rfl) rfl ?_
  refine bplain (pc' := 34) rfl dX0_piece_33 rfl (ihN rfl) rfl ?_
  refine bplain (pc' := 36) rfl dX0_piece_34 rfl (ihN rfl) rfl ?_
  refine bplain (pc' := 37) rfl dX0_piece_36 rfl (ihN rfl) rfl ?_
  refine bplain (pc' := 39) rfl dX0_piece_37 rfl (ihN rfl) rfl ?_
  exact bnop0 rfl (by decide)
theorem bf_X0_piece_39 : BOKt mt tX0_piece 256 39 b_X0_piece_39 := by
  refine bnop1 ?_
  refine bplain (pc' := 40) rfl dX0_piece_39 rfl (ihN rfl) rfl ?_
  refine bplain (pc' := 42) rfl dX0_piece_40 rfl (ihN rfl) rfl ?_
  refine bplain (pc' := 44) rfl dX0_piece_42 rfl (ihN rfl) rfl ?_
  refine bplain (pc' := 45) rfl dX0_piece_44 rfl (ihN rfl) rfl ?_
  refine bplain (pc' := 46) rfl dX0_piece_45 rfl (ihN rfl) rfl ?_
  refine bplain (pc' := 48) rfl dX0_piece_46 rfl (ihN rfl) rfl ?_
  refine bjmp (tg := 73) (pc' := 51) rfl (by decide) (by decide) rfl dX0_piece_48 rfl (ihN rfl) rfl ?_
  refine bplain (pc' := 52) rfl dX0_piece_51 rfl (ihN rfl) rfl ?_
  refine bplain (pc' := 53) rfl dX0_piece_52 rfl (ihN rfl) rfl ?_
  refine bplain (pc' := 55) rfl dX0_piece_53 rfl (ihN rfl) rfl ?_
  refine bplain (pc' := 57) rfl dX0_piece_55 rfl (ihN rfl) rfl ?_
  refine bplain (pc' := 58) rfl dX0_piece_57 rfl (ihN rfl) rfl ?_
  refine bplain (pc' := 59) rfl dX0_piece_58 rfl (ihN rfl) rfl ?_
  refine bplain (pc' := 60) rfl dX0_piece_59 rfl (ihN rfl) rfl ?_
  refine bplain (pc' := 61) rfl dX0_piece_60 rfl (ihN rfl) rfl ?_
  refine bplain (pc' := 62) rfl dX0_piece_61 rfl (ihN rfl) rfl ?_
  refine bplain (pc' := 63) rfl dX0_piece_62 rfl (ihN rfl) rfl ?_
  refine bplain (pc' := 64) rfl dX0_piece_63 rfl (ihN rfl) rfl ?_
  refine bjmp (tg := 73) (pc' := 67) rfl (by decide) (by decide) rfl dX0_piece_64 rfl (ihN rfl) rfl ?_
  refine bplain (pc' := 70) rfl dX0_piece_67 rfl (ihN rfl) rfl ?_
  refine bjmp (tg := 39) (pc' := 73) rfl (by decide) (by decide) rfl dX0_piece_70 rfl (ihN rfl) rfl ?_
  exact trivial
theorem bf_X0_piece_73 : BOKt mt tX0_piece 256 73 b_X0_piece_73 := by
  refine bnop1 ?_
  refine bthr (pc' := 76) rfl dX0_piece_73 rfl (⟨⟨by decide, by decide, by decide⟩, rfl, q2281, q1930, q179⟩) (trivial) (ihN rfl) rfl ?_
  refine bplain (pc' := 77) rfl dX0_piece_76 rfl (ihN rfl) rfl ?_
  refine bplain (pc' := 78) rfl dX0_piece_77 rfl (ihN rfl) rfl ?_
  refine bplain (pc' := 80) rfl dX0_piece_78 rfl (ihN rfl) rfl ?_
  refine bplain (pc' := 82) rfl dX0_piece_80 rfl (ihN rfl) rfl ?_
  refine bcall (pc' := 85) rfl dX0_piece_82 rfl (trivial) (lci mt_X8_init ⟨by decide, by decide⟩ mok_X8_init rfl rfl rfl ln_237 q1936 rfl (Or.inl q2282)) (ihN rfl) rfl ?_
  refine bret (pc' := 86) rfl dX0_piece_85 rfl (⟨_, rfl, Or.inl ⟨_, rfl⟩⟩) (ihN rfl) rfl ?_
  exact trivial
theorem tf_X0_piece : ∀ x ∈ tb_X0_piece, BOK mt 256 x.1 x.2 := tb_c mt_X0_piece bf_X0_piece_0 (tb_c mt_X0_piece bf_X0_piece_28 (tb_c mt_X0_piece bf_X0_piece_39 (tb_c mt_X0_piece bf_X0_piece_73 (tb_n))))
theorem bf_X0_without_0 : BOKt mt tX0_without 257 0 b_X0_without_0 := by
  refine bplain (pc' := 1) rfl dX0_without_0 rfl (ihN rfl) rfl ?_
  refine bplain (pc' := 2) rfl dX0_without_1 rfl (ihN rfl) rfl ?_
  refine bplain (pc' := 3) rfl dX0_without_2 rfl (ihN rfl) rfl ?_
  refine bplain (pc' := 5) rfl dX0_without_3 rfl (ihN rfl) rfl ?_
  exact bnop0 rfl (by decide)
theorem bf_X0_without_5 : BOKt mt tX0_without 257 5 b_X0_without_5 := by
  refine bnop1 ?_
  refine bplain (pc' := 7) rfl dX0_without_5 rfl (ihN rfl) rfl ?_
  refine bplain (pc' := 8) rfl dX0_without_7 rfl (ihN rfl) rfl ?_
  refine bthr (pc' := 11) rfl dX0_without_8 rfl (lkf1 (host := "StrideTurns") (by decide) q1944 lf_38) (trivial) (ihN rfl) rfl ?_
  refine bjmp (tg := 41) (pc' := 14) rfl (by decide) (by decide) rfl dX0_without_11 rfl (ihN rfl) rfl ?_
  refine bplain (pc' := 15) rfl dX0_without_14 rfl (ihN rfl) rfl ?_
  refine bplain (pc' := 16) rfl dX0_without_15 rfl (ihN rfl) rfl ?_
  refine bplain (pc' := 17) rfl dX0_without_16 rfl (ihN rfl) rfl ?_
  refine bthr (pc' := 20) rfl dX0_without_17 rfl (lkf1 (host := "StrideTurns") (by decide) q1940 lf_39) (trivial) (ihN rfl) rfl ?_
  refine bplain (pc' := 22) rfl dX0_without_20 rfl (ihN rfl) rfl ?_
  refine bplain (pc' := 23) rfl dX0_without_22 rfl (ihN rfl) rfl ?_
  refine bthr (pc' := 26) rfl dX0_without_23 rfl (lkf1 (host := "StrideTurns") (by decide) q1942 lf_37) (trivial) (ihN rfl) rfl ?_
  refine bplain (pc' := 27) rfl dX0_without_26 rfl (ihN rfl) rfl ?_
  refine bplain (pc' := 28) rfl dX0_without_27 rfl (ihN rfl) rfl ?_
  refine bplain (pc' := 29) rfl dX0_without_28 rfl (ihN rfl) rfl ?_
  refine bobj (pc' := 32) rfl dX0_without_29 rfl (lkq0 lc_355 q1822) (ihN rfl) rfl ?_
  refine bplain (pc' := 33) rfl dX0_without_32 rfl (ihN rfl) rfl ?_
  refine bplain (pc' := 34) rfl dX0_without_33 rfl (ihN rfl) rfl ?_
  refine bplain (pc' := 35) rfl dX0_without_34 rfl (ihN rfl) rfl ?_
  refine bplain (pc' := 38) rfl dX0_without_35 rfl (ihN rfl) rfl ?_
  refine bjmp (tg := 5) (pc' := 41) rfl (by decide) (by decide) rfl dX0_without_38 rfl (ihN rfl) rfl ?_
  exact trivial
theorem bf_X0_without_41 : BOKt mt tX0_without 257 41 b_X0_without_41 := by
  refine bplain (pc' := 42) rfl dX0_without_41 rfl (ihN rfl) rfl ?_
  refine bret (pc' := 43) rfl dX0_without_42 rfl (rfl) (ihN rfl) rfl ?_
  exact trivial
theorem tf_X0_without : ∀ x ∈ tb_X0_without, BOK mt 257 x.1 x.2 := tb_c mt_X0_without bf_X0_without_0 (tb_c mt_X0_without bf_X0_without_5 (tb_c mt_X0_without bf_X0_without_41 (tb_n)))
theorem bf_X0_piecesOf_0 : BOKt mt tX0_piecesOf 258 0 b_X0_piecesOf_0 := by
  refine bplain (pc' := 1) rfl dX0_piecesOf_0 rfl (ihN rfl) rfl ?_
  refine bplain (pc' := 2) rfl dX0_piecesOf_1 rfl (ihN rfl) rfl ?_
  refine bplain (pc' := 3) rfl dX0_piecesOf_2 rfl (ihN rfl) rfl ?_
  refine bplain (pc' := 4) rfl dX0_piecesOf_3 rfl (ihN rfl) rfl ?_
  exact bnop0 rfl (by decide)
theorem bf_X0_piecesOf_4 : BOKt mt tX0_piecesOf 258 4 b_X0_piecesOf_4 := by
  refine bnop1 ?_
  refine bplain (pc' := 5) rfl dX0_piecesOf_4 rfl (ihN rfl) rfl ?_
  refine bplain (pc' := 6) rfl dX0_piecesOf_5 rfl (ihN rfl) rfl ?_
  refine bplain (pc' := 7) rfl dX0_piecesOf_6 rfl (ihN rfl) rfl ?_
  refine bjmp (tg := 25) (pc' := 10) rfl (by decide) (by decide) rfl dX0_piecesOf_7 rfl (ihN rfl) rfl ?_
  refine bplain (pc' := 11) rfl dX0_piecesOf_10 rfl (ihN rfl) rfl ?_
  refine bplain (pc' := 12) rfl dX0_piecesOf_11 rfl (ihN rfl) rfl ?_
  refine bcall (pc' := 15) rfl dX0_piecesOf_12 rfl (trivial) (lcs (l := q2278) mt_X0_piece ⟨by decide, by decide⟩ mok_X0_piece rfl ln_445 (Or.inl q2277)) (ihN rfl) rfl ?_
  refine bcall (pc' := 18) rfl dX0_piecesOf_15 rfl (trivial) (lcs (l := q2284) mt_X0_without ⟨by decide, by decide⟩ mok_X0_without rfl ln_446 (Or.inl q2283)) (ihN rfl) rfl ?_
  refine bplain (pc' := 19) rfl dX0_piecesOf_18 rfl (ihN rfl) rfl ?_
  refine bplain (pc' := 22) rfl dX0_piecesOf_19 rfl (ihN rfl) rfl ?_
  refine bjmp (tg := 4) (pc' := 25) rfl (by decide) (by decide) rfl dX0_piecesOf_22 rfl (ihN rfl) rfl ?_
  exact trivial
theorem bf_X0_piecesOf_25 : BOKt mt tX0_piecesOf 258 25 b_X0_piecesOf_25 := by
  refine bplain (pc' := 26) rfl dX0_piecesOf_25 rfl (ihN rfl) rfl ?_
  refine bret (pc' := 27) rfl dX0_piecesOf_26 rfl (Or.inl ⟨rfl, rfl⟩) (ihN rfl) rfl ?_
  exact trivial
theorem tf_X0_piecesOf : ∀ x ∈ tb_X0_piecesOf, BOK mt 258 x.1 x.2 := tb_c mt_X0_piecesOf bf_X0_piecesOf_0 (tb_c mt_X0_piecesOf bf_X0_piecesOf_4 (tb_c mt_X0_piecesOf bf_X0_piecesOf_25 (tb_n)))
theorem bf_X0_pieces_0 : BOKt mt tX0_pieces 259 0 b_X0_pieces_0 := by
  refine bplain (pc' := 1) rfl dX0_pieces_0 rfl (ihN rfl) rfl ?_
  refine bplain (pc' := 2) rfl dX0_pieces_1 rfl (ihN rfl) rfl ?_
  refine bplain (pc' := 3) rfl dX0_pieces_2 rfl (ihN rfl) rfl ?_
  refine bplain (pc' := 4) rfl dX0_pieces_3 rfl (ihN rfl) rfl ?_
  refine bcall (pc' := 7) rfl dX0_pieces_4 rfl (trivial) (lcv (n := 3) rfl (pvc (lfv mt_X0_isSet ⟨by decide, by decide⟩ mok_X0_isSet ⟨by decide, by decide⟩ ⟨q2219, ln_226, Or.inl ⟨q2217, Or.inl qs23⟩⟩) (trivial)) (Or.inl (by decide))) (ihN rfl) rfl ?_
  refine bjmp (tg := 13) (pc' := 10) rfl (by decide) (by decide) rfl dX0_pieces_7 rfl (ihN rfl) rfl ?_
  refine bplain (pc' := 12) rfl dX0_pieces_10 rfl (ihN rfl) rfl ?_
  refine bret (pc' := 13) rfl dX0_pieces_12 rfl (Or.inl ⟨rfl, rfl⟩) (ihN rfl) rfl ?_
  exact trivial
theorem bf_X0_pieces_13 : BOKt mt tX0_pieces 259 13 b_X0_pieces_13 := by
  refine bplain (pc' := 14) rfl dX0_pieces_13 rfl (ihN rfl) rfl ?_
  refine bcall (pc' := 17) rfl dX0_pieces_14 rfl (trivial) (lcv (n := 0) rfl (pvc (lfv mt_X0_knows ⟨by decide, by decide⟩ mok_X0_knows ⟨by decide, by decide⟩ ⟨q2223, ln_0, Or.inl ⟨q2221, Or.inl qs24⟩⟩) (trivial)) (Or.inl (by decide))) (ihN rfl) rfl ?_
  refine bplain (pc' := 18) rfl dX0_pieces_17 rfl (ihN rfl) rfl ?_
  refine bplain (pc' := 19) rfl dX0_pieces_18 rfl (ihN rfl) rfl ?_
  refine bplain (pc' := 20) rfl dX0_pieces_19 rfl (ihN rfl) rfl ?_
  refine bplain (pc' := 21) rfl dX0_pieces_20 rfl (ihN rfl) rfl ?_
  refine bcall (pc' := 24) rfl dX0_pieces_21 rfl (trivial) (lcv (n := 3) rfl (pvc (lfv mt_X0_bitsOf ⟨by decide, by decide⟩ mok_X0_bitsOf ⟨by decide, by decide⟩ ⟨q2262, ln_440, Or.inl ⟨q2260, Or.inl qs29⟩⟩) (trivial)) (Or.inl (by decide))) (ihN rfl) rfl ?_
  refine bcall (pc' := 27) rfl dX0_pieces_24 rfl (trivial) (lcs (l := q2275) mt_X0_piecesOf ⟨by decide, by decide⟩ mok_X0_piecesOf rfl ln_441 (Or.inl q2274)) (ihN rfl) rfl ?_
  refine bret (pc' := 28) rfl dX0_pieces_27 rfl (Or.inl ⟨rfl, rfl⟩) (ihN rfl) rfl ?_
  exact trivial
theorem tf_X0_pieces : ∀ x ∈ tb_X0_pieces, BOK mt 259 x.1 x.2 := tb_c mt_X0_pieces bf_X0_pieces_0 (tb_c mt_X0_pieces bf_X0_pieces_13 (tb_n))
theorem bf_X3_nextBit_0 : BOKt mt tX3_nextBit 260 0 b_X3_nextBit_0 := by
  refine bplain (pc' := 1) rfl dX3_nextBit_0 rfl (ihN rfl) rfl ?_
  refine bplain (pc' := 2) rfl dX3_nextBit_1 rfl (ihN rfl) rfl ?_
  refine bplain (pc' := 4) rfl dX3_nextBit_2 rfl (ihN rfl) rfl ?_
  refine bplain (pc' := 5) rfl dX3_nextBit_4 rfl (ihN rfl) rfl ?_
  exact bnop0 rfl (by decide)
theorem bf_X3_nextBit_5 : BOKt mt tX3_nextBit 260 5 b_X3_nextBit_5 := by
  refine bplain (pc' := 6) rfl dX3_nextBit_5 rfl (ihN rfl) rfl ?_
  refine bplain (pc' := 7) rfl dX3_nextBit_6 rfl (ihN rfl) rfl ?_
  refine bjmp (tg := 31) (pc' := 10) rfl (by decide) (by decide) rfl dX3_nextBit_7 rfl (ihN rfl) rfl ?_
  refine bplain (pc' := 11) rfl dX3_nextBit_10 rfl (ihN rfl) rfl ?_
  refine bplain (pc' := 12) rfl dX3_nextBit_11 rfl (ihN rfl) rfl ?_
  refine bplain (pc' := 13) rfl dX3_nextBit_12 rfl (ihN rfl) rfl ?_
  refine bplain (pc' := 14) rfl dX3_nextBit_13 rfl (ihN rfl) rfl ?_
  refine bplain (pc' := 15) rfl dX3_nextBit_14 rfl (ihN rfl) rfl ?_
  refine bplain (pc' := 16) rfl dX3_nextBit_15 rfl (ihN rfl) rfl ?_
  refine bjmp (tg := 23) (pc' := 19) rfl (by decide) (by decide) rfl dX3_nextBit_16 rfl (ihN rfl) rfl ?_
  refine bplain (pc' := 20) rfl dX3_nextBit_19 rfl (ihN rfl) rfl ?_
  refine bjmp (tg := 24) (pc' := 23) rfl (by decide) (by decide) rfl dX3_nextBit_20 rfl (ihN rfl) rfl ?_
  exact trivial
theorem bf_X3_nextBit_23 : BOKt mt tX3_nextBit 260 23 b_X3_nextBit_23 := by
  refine bplain (pc' := 24) rfl dX3_nextBit_23 rfl (ihN rfl) rfl ?_
  exact bnop0 rfl (by decide)
theorem bf_X3_nextBit_24 : BOKt mt tX3_nextBit 260 24 b_X3_nextBit_24 := by
  refine bnop1 ?_
  refine bplain (pc' := 25) rfl dX3_nextBit_24 rfl (ihN rfl) rfl ?_
  refine bplain (pc' := 28) rfl dX3_nextBit_25 rfl (ihN rfl) rfl ?_
  refine bjmp (tg := 5) (pc' := 31) rfl (by decide) (by decide) rfl dX3_nextBit_28 rfl (ihN rfl) rfl ?_
  exact trivial
theorem bf_X3_nextBit_31 : BOKt mt tX3_nextBit 260 31 b_X3_nextBit_31 := by
  refine bplain (pc' := 32) rfl dX3_nextBit_31 rfl (ihN rfl) rfl ?_
  refine bret (pc' := 33) rfl dX3_nextBit_32 rfl (Or.inl ⟨rfl, rfl⟩) (ihN rfl) rfl ?_
  exact trivial
theorem tf_X3_nextBit : ∀ x ∈ tb_X3_nextBit, BOK mt 260 x.1 x.2 := tb_c mt_X3_nextBit bf_X3_nextBit_0 (tb_c mt_X3_nextBit bf_X3_nextBit_5 (tb_c mt_X3_nextBit bf_X3_nextBit_23 (tb_c mt_X3_nextBit bf_X3_nextBit_24 (tb_c mt_X3_nextBit bf_X3_nextBit_31 (tb_n)))))
theorem bf_X3_without_0 : BOKt mt tX3_without 261 0 b_X3_without_0 := by
  refine bplain (pc' := 1) rfl dX3_without_0 rfl (ihN rfl) rfl ?_
  refine bplain (pc' := 2) rfl dX3_without_1 rfl (ihN rfl) rfl ?_
  refine bplain (pc' := 3) rfl dX3_without_2 rfl (ihN rfl) rfl ?_
  refine bcall (pc' := 6) rfl dX3_without_3 rfl (trivial) (lcs (l := q2991) mt_X3_nextBit ⟨by decide, by decide⟩ mok_X3_nextBit rfl ln_252 (Or.inl q2990)) (ihN rfl) rfl ?_
  refine bobj (pc' := 9) rfl dX3_without_6 rfl (⟨lkf0 q2623 lf_447, lkp0 lp_448⟩) (ihN rfl) rfl ?_
  refine bplain (pc' := 10) rfl dX3_without_9 rfl (ihN rfl) rfl ?_
  refine bplain (pc' := 11) rfl dX3_without_10 rfl (ihN rfl) rfl ?_
  refine bthr (pc' := 14) rfl dX3_without_11 rfl (lkf0 q2623 lf_447) (trivial) (ihN rfl) rfl ?_
  refine bplain (pc' := 15) rfl dX3_without_14 rfl (ihN rfl) rfl ?_
  refine bplain (pc' := 16) rfl dX3_without_15 rfl (ihN rfl) rfl ?_
  refine bcall (pc' := 19) rfl dX3_without_16 rfl (trivial) (lcs (l := q2991) mt_X3_nextBit ⟨by decide, by decide⟩ mok_X3_nextBit rfl ln_252 (Or.inl q2990)) (ihN rfl) rfl ?_
  refine bplain (pc' := 20) rfl dX3_without_19 rfl (ihN rfl) rfl ?_
  refine bplain (pc' := 21) rfl dX3_without_20 rfl (ihN rfl) rfl ?_
  refine bplain (pc' := 22) rfl dX3_without_21 rfl (ihN rfl) rfl ?_
  refine bplain (pc' := 23) rfl dX3_without_22 rfl (ihN rfl) rfl ?_
  refine bjmp (tg := 30) (pc' := 26) rfl (by decide) (by decide) rfl dX3_without_23 rfl (ihN rfl) rfl ?_
  refine bplain (pc' := 27) rfl dX3_without_26 rfl (ihN rfl) rfl ?_
  refine bjmp (tg := 36) (pc' := 30) rfl (by decide) (by decide) rfl dX3_without_27 rfl (ihN rfl) rfl ?_
  exact trivial
theorem bf_X3_without_30 : BOKt mt tX3_without 261 30 b_X3_without_30 := by
  refine bplain (pc' := 31) rfl dX3_without_30 rfl (ihN rfl) rfl ?_
  refine bplain (pc' := 32) rfl dX3_without_31 rfl (ihN rfl) rfl ?_
  refine bthr (pc' := 35) rfl dX3_without_32 rfl (lkf0 q2623 lf_447) (trivial) (ihN rfl) rfl ?_
  refine bplain (pc' := 36) rfl dX3_without_35 rfl (ihN rfl) rfl ?_
  exact bnop0 rfl (by decide)
theorem bf_X3_without_36 : BOKt mt tX3_without 261 36 b_X3_without_36 := by
  refine bnop1 ?_
  refine bobj (pc' := 39) rfl dX3_without_36 rfl (⟨lkf0 q2624 lf_449, lkp0 lp_450⟩) (ihN rfl) rfl ?_
  refine bplain (pc' := 40) rfl dX3_without_39 rfl (ihN rfl) rfl ?_
  refine bplain (pc' := 41) rfl dX3_without_40 rfl (ihN rfl) rfl ?_
  refine bobj (pc' := 44) rfl dX3_without_41 rfl (⟨lkf0 q2625 lf_451, lkp0 lp_452⟩) (ihN rfl) rfl ?_
  refine bplain (pc' := 45) rfl dX3_without_44 rfl (ihN rfl) rfl ?_
  refine bplain (pc' := 46) rfl dX3_without_45 rfl (ihN rfl) rfl ?_
  refine bplain (pc' := 47) rfl dX3_without_46 rfl (ihN rfl) rfl ?_
  refine bthr (pc' := 50) rfl dX3_without_47 rfl (lkf0 q2623 lf_447) (trivial) (ihN rfl) rfl ?_
  refine bplain (pc' := 52) rfl dX3_without_50 rfl (ihN rfl) rfl ?_
  exact bnop0 rfl (by decide)
theorem bf_X3_without_52 : BOKt mt tX3_without 261 52 b_X3_without_52 := by
  refine bnop1 ?_
  refine bplain (pc' := 54) rfl dX3_without_52 rfl (ihN rfl) rfl ?_
  refine bplain (pc' := 56) rfl dX3_without_54 rfl (ihN rfl) rfl ?_
  refine bjmp (tg := 100) (pc' := 59) rfl (by decide) (by decide) rfl dX3_without_56 rfl (ihN rfl) rfl ?_
  refine bplain (pc' := 60) rfl dX3_without_59 rfl (ihN rfl) rfl ?_
  refine bplain (pc' := 62) rfl dX3_without_60 rfl (ihN rfl) rfl ?_
  refine bplain (pc' := 63) rfl dX3_without_62 rfl (ihN rfl) rfl ?_
  refine bplain (pc' := 64) rfl dX3_without_63 rfl (ihN rfl) rfl ?_
  refine bplain (pc' := 65) rfl dX3_without_64 rfl (ihN rfl) rfl ?_
  refine bplain (pc' := 66) rfl dX3_without_65 rfl (ihN rfl) rfl ?_
  refine bjmp (tg := 100) (pc' := 69) rfl (by decide) (by decide) rfl dX3_without_66 rfl (ihN rfl) rfl ?_
  refine bplain (pc' := 70) rfl dX3_without_69 rfl (ihN rfl) rfl ?_
  refine bplain (pc' := 71) rfl dX3_without_70 rfl (ihN rfl) rfl ?_
  refine bplain (pc' := 73) rfl dX3_without_71 rfl (ihN rfl) rfl ?_
  refine bplain (pc' := 74) rfl dX3_without_73 rfl (ihN rfl) rfl ?_
  refine bplain (pc' := 75) rfl dX3_without_74 rfl (ihN rfl) rfl ?_
  refine bplain (pc' := 76) rfl dX3_without_75 rfl (ihN rfl) rfl ?_
  refine bplain (pc' := 77) rfl dX3_without_76 rfl (ihN rfl) rfl ?_
  refine bplain (pc' := 78) rfl dX3_without_77 rfl (ihN rfl) rfl ?_
  refine bplain (pc' := 79) rfl dX3_without_78 rfl (ihN rfl) rfl ?_
  refine bplain (pc' := 80) rfl dX3_without_79 rfl (ihN rfl) rfl ?_
  refine bthr (pc' := 83) rfl dX3_without_80 rfl (lkf0 q2625 lf_451) (trivial) (ihN rfl) rfl ?_
  refine bplain (pc' := 84) rfl dX3_without_83 rfl (ihN rfl) rfl ?_
  refine bplain (pc' := 85) rfl dX3_without_84 rfl (ihN rfl) rfl ?_
  refine bobj (pc' := 88) rfl dX3_without_85 rfl (⟨lkf0 q2625 lf_451, lkp0 lp_452⟩) (ihN rfl) rfl ?_
  refine bplain (pc' := 90) rfl dX3_without_88 rfl (ihN rfl) rfl ?_
  refine bplain (pc' := 91) rfl dX3_without_90 rfl (ihN rfl) rfl ?_
  refine bthr (pc' := 94) rfl dX3_without_91 rfl (lkf0 q2624 lf_449) (trivial) (ihN rfl) rfl ?_
  refine bplain (pc' := 95) rfl dX3_without_94 rfl (ihN rfl) rfl ?_
  refine bplain (pc' := 97) rfl dX3_without_95 rfl (ihN rfl) rfl ?_
  refine bjmp (tg := 52) (pc' := 100) rfl (by decide) (by decide) rfl dX3_without_97 rfl (ihN rfl) rfl ?_
  exact trivial
theorem bf_X3_without_100 : BOKt mt tX3_without 261 100 b_X3_without_100 := by
  refine bnop1 ?_
  refine bplain (pc' := 101) rfl dX3_without_100 rfl (ihN rfl) rfl ?_
  refine bret (pc' := 102) rfl dX3_without_101 rfl (Or.inl ⟨rfl, rfl⟩) (ihN rfl) rfl ?_
  exact trivial
theorem tf_X3_without : ∀ x ∈ tb_X3_without, BOK mt 261 x.1 x.2 := tb_c mt_X3_without bf_X3_without_0 (tb_c mt_X3_without bf_X3_without_30 (tb_c mt_X3_without bf_X3_without_36 (tb_c mt_X3_without bf_X3_without_52 (tb_c mt_X3_without bf_X3_without_100 (tb_n)))))
theorem bf_X3_piecesOf_0 : BOKt mt tX3_piecesOf 262 0 b_X3_piecesOf_0 := by
  refine bplain (pc' := 1) rfl dX3_piecesOf_0 rfl (ihN rfl) rfl ?_
  refine bplain (pc' := 2) rfl dX3_piecesOf_1 rfl (ihN rfl) rfl ?_
  refine bplain (pc' := 3) rfl dX3_piecesOf_2 rfl (ihN rfl) rfl ?_
  refine bplain (pc' := 4) rfl dX3_piecesOf_3 rfl (ihN rfl) rfl ?_
  exact bnop0 rfl (by decide)
theorem bf_X3_piecesOf_4 : BOKt mt tX3_piecesOf 262 4 b_X3_piecesOf_4 := by
  refine bnop1 ?_
  refine bplain (pc' := 5) rfl dX3_piecesOf_4 rfl (ihN rfl) rfl ?_
  refine bjmp (tg := 20) (pc' := 8) rfl (by decide) (by decide) rfl dX3_piecesOf_5 rfl (ihN rfl) rfl ?_
  refine bplain (pc' := 9) rfl dX3_piecesOf_8 rfl (ihN rfl) rfl ?_
  refine bplain (pc' := 10) rfl dX3_piecesOf_9 rfl (ihN rfl) rfl ?_
  refine bcall (pc' := 13) rfl dX3_piecesOf_10 rfl (trivial) (lcv (n := 1) rfl (pvc (lfv mt_X3_without ⟨by decide, by decide⟩ mok_X3_without ⟨by decide, by decide⟩ ⟨q2988, ln_225, Or.inl ⟨q2986, Or.inl qs97⟩⟩) (trivial)) (Or.inl (by decide))) (ihN rfl) rfl ?_
  refine bplain (pc' := 14) rfl dX3_piecesOf_13 rfl (ihN rfl) rfl ?_
  refine bplain (pc' := 17) rfl dX3_piecesOf_14 rfl (ihN rfl) rfl ?_
  refine bjmp (tg := 4) (pc' := 20) rfl (by decide) (by decide) rfl dX3_piecesOf_17 rfl (ihN rfl) rfl ?_
  exact trivial
theorem bf_X3_piecesOf_20 : BOKt mt tX3_piecesOf 262 20 b_X3_piecesOf_20 := by
  refine bplain (pc' := 21) rfl dX3_piecesOf_20 rfl (ihN rfl) rfl ?_
  refine bret (pc' := 22) rfl dX3_piecesOf_21 rfl (Or.inl ⟨rfl, rfl⟩) (ihN rfl) rfl ?_
  exact trivial
theorem tf_X3_piecesOf : ∀ x ∈ tb_X3_piecesOf, BOK mt 262 x.1 x.2 := tb_c mt_X3_piecesOf bf_X3_piecesOf_0 (tb_c mt_X3_piecesOf bf_X3_piecesOf_4 (tb_c mt_X3_piecesOf bf_X3_piecesOf_20 (tb_n)))
theorem bf_X3_pieces_0 : BOKt mt tX3_pieces 263 0 b_X3_pieces_0 := by
  refine bplain (pc' := 1) rfl dX3_pieces_0 rfl (ihN rfl) rfl ?_
  refine bplain (pc' := 2) rfl dX3_pieces_1 rfl (ihN rfl) rfl ?_
  refine bplain (pc' := 3) rfl dX3_pieces_2 rfl (ihN rfl) rfl ?_
  refine bplain (pc' := 4) rfl dX3_pieces_3 rfl (ihN rfl) rfl ?_
  refine bcall (pc' := 7) rfl dX3_pieces_4 rfl (trivial) (lcv (n := 3) rfl (pvc (lfv mt_X3_isSet ⟨by decide, by decide⟩ mok_X3_isSet ⟨by decide, by decide⟩ ⟨q2945, ln_226, Or.inl ⟨q2943, Or.inl qs88⟩⟩) (trivial)) (Or.inl (by decide))) (ihN rfl) rfl ?_
  refine bjmp (tg := 24) (pc' := 10) rfl (by decide) (by decide) rfl dX3_pieces_7 rfl (ihN rfl) rfl ?_
  refine bplain (pc' := 11) rfl dX3_pieces_10 rfl (ihN rfl) rfl ?_
  refine bplain (pc' := 12) rfl dX3_pieces_11 rfl (ihN rfl) rfl ?_
  refine bplain (pc' := 13) rfl dX3_pieces_12 rfl (ihN rfl) rfl ?_
  refine bplain (pc' := 14) rfl dX3_pieces_13 rfl (ihN rfl) rfl ?_
  refine bplain (pc' := 15) rfl dX3_pieces_14 rfl (ihN rfl) rfl ?_
  refine bcall (pc' := 18) rfl dX3_pieces_15 rfl (trivial) (lcv (n := 3) rfl (pvc (lfv mt_X3_bitsOfSet ⟨by decide, by decide⟩ mok_X3_bitsOfSet ⟨by decide, by decide⟩ ⟨q2949, ln_255, Or.inl ⟨q2947, Or.inl qs89⟩⟩) (trivial)) (Or.inl (by decide))) (ihN rfl) rfl ?_
  refine bcall (pc' := 21) rfl dX3_pieces_18 rfl (trivial) (lcv (n := 1) rfl (pvc (lfv mt_X3_piecesOf ⟨by decide, by decide⟩ mok_X3_piecesOf ⟨by decide, by decide⟩ ⟨q2984, ln_225, Or.inl ⟨q2982, Or.inl qs96⟩⟩) (trivial)) (Or.inl (by decide))) (ihN rfl) rfl ?_
  refine bjmp (tg := 26) (pc' := 24) rfl (by decide) (by decide) rfl dX3_pieces_21 rfl (ihN rfl) rfl ?_
  exact trivial
theorem bf_X3_pieces_24 : BOKt mt tX3_pieces 263 24 b_X3_pieces_24 := by
  refine bplain (pc' := 26) rfl dX3_pieces_24 rfl (ihN rfl) rfl ?_
  exact bnop0 rfl (by decide)
theorem bf_X3_pieces_26 : BOKt mt tX3_pieces 263 26 b_X3_pieces_26 := by
  refine bnop1 ?_
  refine bret (pc' := 27) rfl dX3_pieces_26 rfl (Or.inl ⟨rfl, rfl⟩) (ihN rfl) rfl ?_
  exact trivial
theorem tf_X3_pieces : ∀ x ∈ tb_X3_pieces, BOK mt 263 x.1 x.2 := tb_c mt_X3_pieces bf_X3_pieces_0 (tb_c mt_X3_pieces bf_X3_pieces_24 (tb_c mt_X3_pieces bf_X3_pieces_26 (tb_n)))
theorem bf_X0_piece_2_0 : BOKt mt tX0_piece_2 264 0 b_X0_piece_2_0 := by
  refine bplain (pc' := 1) rfl dX0_piece_2_0 rfl (ihN rfl) rfl ?_
  refine bplain (pc' := 2) rfl dX0_piece_2_1 rfl (ihN rfl) rfl ?_
  refine bplain (pc' := 3) rfl dX0_piece_2_2 rfl (ihN rfl) rfl ?_
  refine bplain (pc' := 4) rfl dX0_piece_2_3 rfl (ihN rfl) rfl ?_
  refine bcall (pc' := 7) rfl dX0_piece_2_4 rfl (trivial) (lcv (n := 3) rfl (pvc (lfv mt_X0_isSet ⟨by decide, by decide⟩ mok_X0_isSet ⟨by decide, by decide⟩ ⟨q2219, ln_226, Or.inl ⟨q2217, Or.inl qs23⟩⟩) (trivial)) (Or.inl (by decide))) (ihN rfl) rfl ?_
  refine bjmp (tg := 28) (pc' := 10) rfl (by decide) (by decide) rfl dX0_piece_2_7 rfl (ihN rfl) rfl ?_
  refine bplain (pc' := 12) rfl dX0_piece_2_10 rfl (ihN rfl) rfl ?_
  refine bjmp (tg := 28) (pc' := 15) rfl (by decide) (by decide) rfl dX0_piece_2_12 rfl (ihN rfl) rfl ?_
  refine bplain (pc' := 17) rfl dX0_piece_2_15 rfl (ihN rfl) rfl ?_
  refine bplain (pc' := 18) rfl dX0_piece_2_17 rfl (ihN rfl) rfl ?_
  refine bplain (pc' := 19) rfl dX0_piece_2_18 rfl (ihN rfl) rfl ?_
  refine bobj (pc' := 22) rfl dX0_piece_2_19 rfl (lkq0 lc_336 q1775) (ihN rfl) rfl ?_
  refine bcall (pc' := 25) rfl dX0_piece_2_22 rfl (trivial) (lcs (l := q1214) mt_X0_in ⟨by decide, by decide⟩ mok_X0_in rfl ln_210 (Or.inl q1213)) (ihN rfl) rfl ?_
  refine bjmp (tg := 31) (pc' := 28) rfl (by decide) (by decide) rfl dX0_piece_2_25 rfl (ihN rfl) rfl ?_
  exact bnop0 rfl (by decide)
theorem bf_X0_piece_2_28 : BOKt mt tX0_piece_2 264 28 b_X0_piece_2_28 := by
  refine bnop1 ?_
  refine bplain (pc' := 30) rfl dX0_piece_2_28 rfl (ihN rfl) rfl ?_
  refine bret (pc' := 31) rfl dX0_piece_2_30 rfl (Or.inl ⟨rfl, rfl⟩) (ihN rfl) rfl ?_
  exact trivial
theorem bf_X0_piece_2_31 : BOKt mt tX0_piece_2 264 31 b_X0_piece_2_31 := by
  refine bplain (pc' := 32) rfl dX0_piece_2_31 rfl (ihN rfl) rfl ?_
  refine bcall (pc' := 35) rfl dX0_piece_2_32 rfl (trivial) (lcv (n := 0) rfl (pvc (lfv mt_X0_knows ⟨by decide, by decide⟩ mok_X0_knows ⟨by decide, by decide⟩ ⟨q2223, ln_0, Or.inl ⟨q2221, Or.inl qs24⟩⟩) (trivial)) (Or.inl (by decide))) (ihN rfl) rfl ?_
  refine bplain (pc' := 36) rfl dX0_piece_2_35 rfl (ihN rfl) rfl ?_
  refine bplain (pc' := 37) rfl dX0_piece_2_36 rfl (ihN rfl) rfl ?_
  refine bplain (pc' := 38) rfl dX0_piece_2_37 rfl (ihN rfl) rfl ?_
  refine bplain (pc' := 39) rfl dX0_piece_2_38 rfl (ihN rfl) rfl ?_
  refine bcall (pc' := 42) rfl dX0_piece_2_39 rfl (trivial) (lcv (n := 3) rfl (pvc (lfv mt_X0_bitsOf ⟨by decide, by decide⟩ mok_X0_bitsOf ⟨by decide, by decide⟩ ⟨q2262, ln_440, Or.inl ⟨q2260, Or.inl qs29⟩⟩) (trivial)) (Or.inl (by decide))) (ihN rfl) rfl ?_
  refine bplain (pc' := 44) rfl dX0_piece_2_42 rfl (ihN rfl) rfl ?_
  refine bplain (pc' := 45) rfl dX0_piece_2_44 rfl (ihN rfl) rfl ?_
  refine bplain (pc' := 47) rfl dX0_piece_2_45 rfl (ihN rfl) rfl ?_
  exact bnop0 rfl (by decide)
theorem bf_X0_piece_2_47 : BOKt mt tX0_piece_2 264 47 b_X0_piece_2_47 := by
  refine bnop1 ?_
  refine bplain (pc' := 49) rfl dX0_piece_2_47 rfl (ihN rfl) rfl ?_
  refine bplain (pc' := 51) rfl dX0_piece_2_49 rfl (ihN rfl) rfl ?_
  refine bjmp (tg := 79) (pc' := 54) rfl (by decide) (by decide) rfl dX0_piece_2_51 rfl (ihN rfl) rfl ?_
  refine bplain (pc' := 56) rfl dX0_piece_2_54 rfl (ihN rfl) rfl ?_
  refine bplain (pc' := 57) rfl dX0_piece_2_56 rfl (ihN rfl) rfl ?_
  refine bplain (pc' := 58) rfl dX0_piece_2_57 rfl (ihN rfl) rfl ?_
  refine bjmp (tg := 79) (pc' := 61) rfl (by decide) (by decide) rfl dX0_piece_2_58 rfl (ihN rfl) rfl ?_
  refine bplain (pc' := 63) rfl dX0_piece_2_61 rfl (ihN rfl) rfl ?_
  refine bplain (pc' := 65) rfl dX0_piece_2_63 rfl (ihN rfl) rfl ?_
  refine bcall (pc' := 68) rfl dX0_piece_2_65 rfl (trivial) (lcs (l := q2278) mt_X0_piece ⟨by decide, by decide⟩ mok_X0_piece rfl ln_445 (Or.inl q2277)) (ihN rfl) rfl ?_
  refine bcall (pc' := 71) rfl dX0_piece_2_68 rfl (trivial) (lcs (l := q2284) mt_X0_without ⟨by decide, by decide⟩ mok_X0_without rfl ln_446 (Or.inl q2283)) (ihN rfl) rfl ?_
  refine bplain (pc' := 73) rfl dX0_piece_2_71 rfl (ihN rfl) rfl ?_
  refine bplain (pc' := 76) rfl dX0_piece_2_73 rfl (ihN rfl) rfl ?_
  refine bjmp (tg := 47) (pc' := 79) rfl (by decide) (by decide) rfl dX0_piece_2_76 rfl (ihN rfl) rfl ?_
  exact trivial
theorem bf_X0_piece_2_79 : BOKt mt tX0_piece_2 264 79 b_X0_piece_2_79 := by
  refine bnop1 ?_
  refine bplain (pc' := 81) rfl dX0_piece_2_79 rfl (ihN rfl) rfl ?_
  refine bplain (pc' := 82) rfl dX0_piece_2_81 rfl (ihN rfl) rfl ?_
  refine bplain (pc' := 83) rfl dX0_piece_2_82 rfl (ihN rfl) rfl ?_
  refine bjmp (tg := 91) (pc' := 86) rfl (by decide) (by decide) rfl dX0_piece_2_83 rfl (ihN rfl) rfl ?_
  refine bplain (pc' := 88) rfl dX0_piece_2_86 rfl (ihN rfl) rfl ?_
  refine bjmp (tg := 101) (pc' := 91) rfl (by decide) (by decide) rfl dX0_piece_2_88 rfl (ihN rfl) rfl ?_
  exact trivial
theorem bf_X0_piece_2_91 : BOKt mt tX0_piece_2 264 91 b_X0_piece_2_91 := by
  refine bplain (pc' := 93) rfl dX0_piece_2_91 rfl (ihN rfl) rfl ?_
  refine bcall (pc' := 96) rfl dX0_piece_2_93 rfl (trivial) (lcs (l := q2278) mt_X0_piece ⟨by decide, by decide⟩ mok_X0_piece rfl ln_445 (Or.inl q2277)) (ihN rfl) rfl ?_
  refine bplain (pc' := 98) rfl dX0_piece_2_96 rfl (ihN rfl) rfl ?_
  refine bcall (pc' := 101) rfl dX0_piece_2_98 rfl (trivial) (lcv (n := 1) rfl (pvc (lfv mt_X8_tells ⟨by decide, by decide⟩ mok_X8_tells ⟨by decide, by decide⟩ ⟨q1953, ln_225, Or.inl ⟨q1952, Or.inl q1954⟩⟩) (trivial)) (Or.inl (by decide))) (ihN rfl) rfl ?_
  exact bnop0 rfl (by decide)
theorem bf_X0_piece_2_101 : BOKt mt tX0_piece_2 264 101 b_X0_piece_2_101 := by
  refine bnop1 ?_
  refine bret (pc' := 102) rfl dX0_piece_2_101 rfl (Or.inl ⟨rfl, rfl⟩) (ihN rfl) rfl ?_
  exact trivial
theorem tf_X0_piece_2 : ∀ x ∈ tb_X0_piece_2, BOK mt 264 x.1 x.2 := tb_c mt_X0_piece_2 bf_X0_piece_2_0 (tb_c mt_X0_piece_2 bf_X0_piece_2_28 (tb_c mt_X0_piece_2 bf_X0_piece_2_31 (tb_c mt_X0_piece_2 bf_X0_piece_2_47 (tb_c mt_X0_piece_2 bf_X0_piece_2_79 (tb_c mt_X0_piece_2 bf_X0_piece_2_91 (tb_c mt_X0_piece_2 bf_X0_piece_2_101 (tb_n)))))))
theorem bf_X3_pieceOf_0 : BOKt mt tX3_pieceOf 265 0 b_X3_pieceOf_0 := by
  refine bplain (pc' := 1) rfl dX3_pieceOf_0 rfl (ihN rfl) rfl ?_
  refine bplain (pc' := 3) rfl dX3_pieceOf_1 rfl (ihN rfl) rfl ?_
  refine bplain (pc' := 4) rfl dX3_pieceOf_3 rfl (ihN rfl) rfl ?_
  refine bplain (pc' := 6) rfl dX3_pieceOf_4 rfl (ihN rfl) rfl ?_
  exact bnop0 rfl (by decide)
theorem bf_X3_pieceOf_6 : BOKt mt tX3_pieceOf 265 6 b_X3_pieceOf_6 := by
  refine bnop1 ?_
  refine bplain (pc' := 8) rfl dX3_pieceOf_6 rfl (ihN rfl) rfl ?_
  refine bplain (pc' := 9) rfl dX3_pieceOf_8 rfl (ihN rfl) rfl ?_
  refine bjmp (tg := 65) (pc' := 12) rfl (by decide) (by decide) rfl dX3_pieceOf_9 rfl (ihN rfl) rfl ?_
  refine bplain (pc' := 14) rfl dX3_pieceOf_12 rfl (ihN rfl) rfl ?_
  refine bjmp (tg := 65) (pc' := 17) rfl (by decide) (by decide) rfl dX3_pieceOf_14 rfl (ihN rfl) rfl ?_
  refine bplain (pc' := 18) rfl dX3_pieceOf_17 rfl (ihN rfl) rfl ?_
  refine bplain (pc' := 20) rfl dX3_pieceOf_18 rfl (ihN rfl) rfl ?_
  refine bcall (pc' := 23) rfl dX3_pieceOf_20 rfl (trivial) (lcv (n := 1) rfl (pvc (lfv mt_X3_without ⟨by decide, by decide⟩ mok_X3_without ⟨by decide, by decide⟩ ⟨q2988, ln_225, Or.inl ⟨q2986, Or.inl qs97⟩⟩) (trivial)) (Or.inl (by decide))) (ihN rfl) rfl ?_
  refine bplain (pc' := 25) rfl dX3_pieceOf_23 rfl (ihN rfl) rfl ?_
  refine bplain (pc' := 27) rfl dX3_pieceOf_25 rfl (ihN rfl) rfl ?_
  refine bplain (pc' := 28) rfl dX3_pieceOf_27 rfl (ihN rfl) rfl ?_
  refine bjmp (tg := 59) (pc' := 31) rfl (by decide) (by decide) rfl dX3_pieceOf_28 rfl (ihN rfl) rfl ?_
  refine bplain (pc' := 32) rfl dX3_pieceOf_31 rfl (ihN rfl) rfl ?_
  refine bjmp (tg := 42) (pc' := 35) rfl (by decide) (by decide) rfl dX3_pieceOf_32 rfl (ihN rfl) rfl ?_
  refine bplain (pc' := 36) rfl dX3_pieceOf_35 rfl (ihN rfl) rfl ?_
  refine bthr (pc' := 39) rfl dX3_pieceOf_36 rfl (lkf0 q2623 lf_447) (trivial) (ihN rfl) rfl ?_
  refine bjmp (tg := 58) (pc' := 42) rfl (by decide) (by decide) rfl dX3_pieceOf_39 rfl (ihN rfl) rfl ?_
  exact trivial
theorem bf_X3_pieceOf_42 : BOKt mt tX3_pieceOf 265 42 b_X3_pieceOf_42 := by
  refine bplain (pc' := 43) rfl dX3_pieceOf_42 rfl (ihN rfl) rfl ?_
  refine bplain (pc' := 44) rfl dX3_pieceOf_43 rfl (ihN rfl) rfl ?_
  refine bjmp (tg := 54) (pc' := 47) rfl (by decide) (by decide) rfl dX3_pieceOf_44 rfl (ihN rfl) rfl ?_
  refine bplain (pc' := 48) rfl dX3_pieceOf_47 rfl (ihN rfl) rfl ?_
  refine bthr (pc' := 51) rfl dX3_pieceOf_48 rfl (lkf0 q2624 lf_449) (trivial) (ihN rfl) rfl ?_
  refine bjmp (tg := 58) (pc' := 54) rfl (by decide) (by decide) rfl dX3_pieceOf_51 rfl (ihN rfl) rfl ?_
  exact trivial
theorem bf_X3_pieceOf_54 : BOKt mt tX3_pieceOf 265 54 b_X3_pieceOf_54 := by
  refine bplain (pc' := 55) rfl dX3_pieceOf_54 rfl (ihN rfl) rfl ?_
  refine bthr (pc' := 58) rfl dX3_pieceOf_55 rfl (lkf0 q2625 lf_451) (trivial) (ihN rfl) rfl ?_
  exact bnop0 rfl (by decide)
theorem bf_X3_pieceOf_58 : BOKt mt tX3_pieceOf 265 58 b_X3_pieceOf_58 := by
  refine bnop1 ?_
  refine bret (pc' := 59) rfl dX3_pieceOf_58 rfl (Or.inl ⟨rfl, rfl⟩) (ihN rfl) rfl ?_
  exact trivial
theorem bf_X3_pieceOf_59 : BOKt mt tX3_pieceOf 265 59 b_X3_pieceOf_59 := by
  refine bplain (pc' := 62) rfl dX3_pieceOf_59 rfl (ihN rfl) rfl ?_
  refine bjmp (tg := 6) (pc' := 65) rfl (by decide) (by decide) rfl dX3_pieceOf_62 rfl (ihN rfl) rfl ?_
  exact trivial
theorem bf_X3_pieceOf_65 : BOKt mt tX3_pieceOf 265 65 b_X3_pieceOf_65 := by
  refine bnop1 ?_
  refine bplain (pc' := 67) rfl dX3_pieceOf_65 rfl (ihN rfl) rfl ?_
  refine bret (pc' := 68) rfl dX3_pieceOf_67 rfl (Or.inl ⟨rfl, rfl⟩) (ihN rfl) rfl ?_
  exact trivial
theorem tf_X3_pieceOf : ∀ x ∈ tb_X3_pieceOf, BOK mt 265 x.1 x.2 := tb_c mt_X3_pieceOf bf_X3_pieceOf_0 (tb_c mt_X3_pieceOf bf_X3_pieceOf_6 (tb_c mt_X3_pieceOf bf_X3_pieceOf_42 (tb_c mt_X3_pieceOf bf_X3_pieceOf_54 (tb_c mt_X3_pieceOf bf_X3_pieceOf_58 (tb_c mt_X3_pieceOf bf_X3_pieceOf_59 (tb_c mt_X3_pieceOf bf_X3_pieceOf_65 (tb_n)))))))
theorem bf_X3_piece_0 : BOKt mt tX3_piece 266 0 b_X3_piece_0 := by
  refine bplain (pc' := 1) rfl dX3_piece_0 rfl (ihN rfl) rfl ?_
  refine bplain (pc' := 2) rfl dX3_piece_1 rfl (ihN rfl) rfl ?_
  refine bplain (pc' := 3) rfl dX3_piece_2 rfl (ihN rfl) rfl ?_
  refine bplain (pc' := 4) rfl dX3_piece_3 rfl (ihN rfl) rfl ?_
  refine bcall (pc' := 7) rfl dX3_piece_4 rfl (trivial) (lcv (n := 3) rfl (pvc (lfv mt_X3_isSet ⟨by decide, by decide⟩ mok_X3_isSet ⟨by decide, by decide⟩ ⟨q2945, ln_226, Or.inl ⟨q2943, Or.inl qs88⟩⟩) (trivial)) (Or.inl (by decide))) (ihN rfl) rfl ?_
  refine bjmp (tg := 43) (pc' := 10) rfl (by decide) (by decide) rfl dX3_piece_7 rfl (ihN rfl) rfl ?_
  refine bplain (pc' := 12) rfl dX3_piece_10 rfl (ihN rfl) rfl ?_
  refine bjmp (tg := 43) (pc' := 15) rfl (by decide) (by decide) rfl dX3_piece_12 rfl (ihN rfl) rfl ?_
  refine bplain (pc' := 17) rfl dX3_piece_15 rfl (ihN rfl) rfl ?_
  refine bplain (pc' := 18) rfl dX3_piece_17 rfl (ihN rfl) rfl ?_
  refine bplain (pc' := 19) rfl dX3_piece_18 rfl (ihN rfl) rfl ?_
  refine bcall (pc' := 22) rfl dX3_piece_19 rfl (trivial) (lcs (l := q2747) mt_X3_in ⟨by decide, by decide⟩ mok_X3_in rfl ln_226 (Or.inl q2746)) (ihN rfl) rfl ?_
  refine bjmp (tg := 43) (pc' := 25) rfl (by decide) (by decide) rfl dX3_piece_22 rfl (ihN rfl) rfl ?_
  refine bplain (pc' := 26) rfl dX3_piece_25 rfl (ihN rfl) rfl ?_
  refine bplain (pc' := 27) rfl dX3_piece_26 rfl (ihN rfl) rfl ?_
  refine bplain (pc' := 28) rfl dX3_piece_27 rfl (ihN rfl) rfl ?_
  refine bplain (pc' := 29) rfl dX3_piece_28 rfl (ihN rfl) rfl ?_
  refine bplain (pc' := 30) rfl dX3_piece_29 rfl (ihN rfl) rfl ?_
  refine bcall (pc' := 33) rfl dX3_piece_30 rfl (trivial) (lcv (n := 3) rfl (pvc (lfv mt_X3_bitsOfSet ⟨by decide, by decide⟩ mok_X3_bitsOfSet ⟨by decide, by decide⟩ ⟨q2949, ln_255, Or.inl ⟨q2947, Or.inl qs89⟩⟩) (trivial)) (Or.inl (by decide))) (ihN rfl) rfl ?_
  refine bplain (pc' := 35) rfl dX3_piece_33 rfl (ihN rfl) rfl ?_
  refine bplain (pc' := 37) rfl dX3_piece_35 rfl (ihN rfl) rfl ?_
  refine bcall (pc' := 40) rfl dX3_piece_37 rfl (trivial) (lcv (n := 3) rfl (pvc (lfv mt_X3_pieceOf ⟨by decide, by decide⟩ mok_X3_pieceOf ⟨by decide, by decide⟩ ⟨q2999, ln_255, Or.inl ⟨q2997, Or.inl qs98⟩⟩) (trivial)) (Or.inl (by decide))) (ihN rfl) rfl ?_
  refine bjmp (tg := 45) (pc' := 43) rfl (by decide) (by decide) rfl dX3_piece_40 rfl (ihN rfl) rfl ?_
  exact trivial
theorem bf_X3_piece_43 : BOKt mt tX3_piece 266 43 b_X3_piece_43 := by
  refine bnop1 ?_
  refine bplain (pc' := 45) rfl dX3_piece_43 rfl (ihN rfl) rfl ?_
  exact bnop0 rfl (by decide)
theorem bf_X3_piece_45 : BOKt mt tX3_piece 266 45 b_X3_piece_45 := by
  refine bnop1 ?_
  refine bret (pc' := 46) rfl dX3_piece_45 rfl (Or.inl ⟨rfl, rfl⟩) (ihN rfl) rfl ?_
  exact trivial
theorem tf_X3_piece : ∀ x ∈ tb_X3_piece, BOK mt 266 x.1 x.2 := tb_c mt_X3_piece bf_X3_piece_0 (tb_c mt_X3_piece bf_X3_piece_43 (tb_c mt_X3_piece bf_X3_piece_45 (tb_n)))
theorem bf_X0_isShared_0 : BOKt mt tX0_isShared 267 0 b_X0_isShared_0 := by
  refine bplain (pc' := 1) rfl dX0_isShared_0 rfl (ihN rfl) rfl ?_
  refine bplain (pc' := 2) rfl dX0_isShared_1 rfl (ihN rfl) rfl ?_
  exact bnop0 rfl (by decide)
theorem bf_X0_isShared_2 : BOKt mt tX0_isShared 267 2 b_X0_isShared_2 := by
  refine bnop1 ?_
  refine bplain (pc' := 3) rfl dX0_isShared_2 rfl (ihN rfl) rfl ?_
  refine bplain (pc' := 4) rfl dX0_isShared_3 rfl (ihN rfl) rfl ?_
  refine bthr (pc' := 7) rfl dX0_isShared_4 rfl (lkf0 q1118 lf_270) (trivial) (ihN rfl) rfl ?_
  refine bjmp (tg := 83) (pc' := 10) rfl (by decide) (by decide) rfl dX0_isShared_7 rfl (ihN rfl) rfl ?_
  refine bplain (pc' := 11) rfl dX0_isShared_10 rfl (ihN rfl) rfl ?_
  refine bplain (pc' := 12) rfl dX0_isShared_11 rfl (ihN rfl) rfl ?_
  exact bnop0 rfl (by decide)
theorem bf_X0_isShared_12 : BOKt mt tX0_isShared 267 12 b_X0_isShared_12 := by
  refine bnop1 ?_
  refine bplain (pc' := 13) rfl dX0_isShared_12 rfl (ihN rfl) rfl ?_
  refine bplain (pc' := 14) rfl dX0_isShared_13 rfl (ihN rfl) rfl ?_
  refine bthr (pc' := 17) rfl dX0_isShared_14 rfl (lkf0 q1118 lf_270) (trivial) (ihN rfl) rfl ?_
  refine bjmp (tg := 77) (pc' := 20) rfl (by decide) (by decide) rfl dX0_isShared_17 rfl (ihN rfl) rfl ?_
  refine bplain (pc' := 21) rfl dX0_isShared_20 rfl (ihN rfl) rfl ?_
  refine bthr (pc' := 24) rfl dX0_isShared_21 rfl (lkf0 q1122 lf_122) (trivial) (ihN rfl) rfl ?_
  refine bplain (pc' := 25) rfl dX0_isShared_24 rfl (ihN rfl) rfl ?_
  refine bplain (pc' := 26) rfl dX0_isShared_25 rfl (ihN rfl) rfl ?_
  refine bplain (pc' := 27) rfl dX0_isShared_26 rfl (ihN rfl) rfl ?_
  refine bcall (pc' := 30) rfl dX0_isShared_27 rfl (trivial) (lcs (l := q2243) mt_X0_setAt ⟨by decide, by decide⟩ mok_X0_setAt rfl ln_255 (Or.inl q2242)) (ihN rfl) rfl ?_
  refine bplain (pc' := 31) rfl dX0_isShared_30 rfl (ihN rfl) rfl ?_
  refine bplain (pc' := 32) rfl dX0_isShared_31 rfl (ihN rfl) rfl ?_
  refine bthr (pc' := 35) rfl dX0_isShared_32 rfl (lkf0 q1122 lf_122) (trivial) (ihN rfl) rfl ?_
  refine bplain (pc' := 36) rfl dX0_isShared_35 rfl (ihN rfl) rfl ?_
  refine bplain (pc' := 37) rfl dX0_isShared_36 rfl (ihN rfl) rfl ?_
  refine bplain (pc' := 38) rfl dX0_isShared_37 rfl (ihN rfl) rfl ?_
  refine bcall (pc' := 41) rfl dX0_isShared_38 rfl (trivial) (lcs (l := q2243) mt_X0_setAt ⟨by decide, by decide⟩ mok_X0_setAt rfl ln_255 (Or.inl q2242)) (ihN rfl) rfl ?_
  refine bplain (pc' := 42) rfl dX0_isShared_41 rfl (ihN rfl) rfl ?_
  refine bplain (pc' := 43) rfl dX0_isShared_42 rfl (ihN rfl) rfl ?_
  refine bplain (pc' := 45) rfl dX0_isShared_43 rfl (ihN rfl) rfl ?_
  refine bplain (pc' := 46) rfl dX0_isShared_45 rfl (ihN rfl) rfl ?_
  refine bplain (pc' := 47) rfl dX0_isShared_46 rfl (ihN rfl) rfl ?_
  refine bjmp (tg := 71) (pc' := 50) rfl (by decide) (by decide) rfl dX0_isShared_47 rfl (ihN rfl) rfl ?_
  refine bplain (pc' := 51) rfl dX0_isShared_50 rfl (ihN rfl) rfl ?_
  refine bthr (pc' := 54) rfl dX0_isShared_51 rfl (lkf0 q1122 lf_122) (trivial) (ihN rfl) rfl ?_
  refine bplain (pc' := 55) rfl dX0_isShared_54 rfl (ihN rfl) rfl ?_
  refine bplain (pc' := 56) rfl dX0_isShared_55 rfl (ihN rfl) rfl ?_
  refine bplain (pc' := 57) rfl dX0_isShared_56 rfl (ihN rfl) rfl ?_
  refine bcall (pc' := 60) rfl dX0_isShared_57 rfl (trivial) (lcs (l := q2243) mt_X0_setAt ⟨by decide, by decide⟩ mok_X0_setAt rfl ln_255 (Or.inl q2242)) (ihN rfl) rfl ?_
  refine bplain (pc' := 61) rfl dX0_isShared_60 rfl (ihN rfl) rfl ?_
  refine bplain (pc' := 63) rfl dX0_isShared_61 rfl (ihN rfl) rfl ?_
  refine bplain (pc' := 64) rfl dX0_isShared_63 rfl (ihN rfl) rfl ?_
  refine bplain (pc' := 65) rfl dX0_isShared_64 rfl (ihN rfl) rfl ?_
  refine bplain (pc' := 66) rfl dX0_isShared_65 rfl (ihN rfl) rfl ?_
  refine bjmp (tg := 71) (pc' := 69) rfl (by decide) (by decide) rfl dX0_isShared_66 rfl (ihN rfl) rfl ?_
  refine bplain (pc' := 70) rfl dX0_isShared_69 rfl (ihN rfl) rfl ?_
  refine bret (pc' := 71) rfl dX0_isShared_70 rfl (Or.inr ⟨rfl, rfl⟩) (ihN rfl) rfl ?_
  exact trivial
theorem bf_X0_isShared_71 : BOKt mt tX0_isShared 267 71 b_X0_isShared_71 := by
  refine bnop1 ?_
  refine bplain (pc' := 74) rfl dX0_isShared_71 rfl (ihN rfl) rfl ?_
  refine bjmp (tg := 12) (pc' := 77) rfl (by decide) (by decide) rfl dX0_isShared_74 rfl (ihN rfl) rfl ?_
  exact trivial
theorem bf_X0_isShared_77 : BOKt mt tX0_isShared 267 77 b_X0_isShared_77 := by
  refine bplain (pc' := 80) rfl dX0_isShared_77 rfl (ihN rfl) rfl ?_
  refine bjmp (tg := 2) (pc' := 83) rfl (by decide) (by decide) rfl dX0_isShared_80 rfl (ihN rfl) rfl ?_
  exact trivial
theorem bf_X0_isShared_83 : BOKt mt tX0_isShared 267 83 b_X0_isShared_83 := by
  refine bplain (pc' := 84) rfl dX0_isShared_83 rfl (ihN rfl) rfl ?_
  refine bret (pc' := 85) rfl dX0_isShared_84 rfl (Or.inr ⟨rfl, rfl⟩) (ihN rfl) rfl ?_
  exact trivial
theorem tf_X0_isShared : ∀ x ∈ tb_X0_isShared, BOK mt 267 x.1 x.2 := tb_c mt_X0_isShared bf_X0_isShared_0 (tb_c mt_X0_isShared bf_X0_isShared_2 (tb_c mt_X0_isShared bf_X0_isShared_12 (tb_c mt_X0_isShared bf_X0_isShared_71 (tb_c mt_X0_isShared bf_X0_isShared_77 (tb_c mt_X0_isShared bf_X0_isShared_83 (tb_n))))))
theorem bf_X6_isOf_0 : BOKt mt tX6_isOf 268 0 b_X6_isOf_0 := by
  refine bplain (pc' := 1) rfl dX6_isOf_0 rfl (ihN rfl) rfl ?_
  refine bplain (pc' := 2) rfl dX6_isOf_1 rfl (ihN rfl) rfl ?_
  exact bnop0 rfl (by decide)
theorem bf_X6_isOf_2 : BOKt mt tX6_isOf 268 2 b_X6_isOf_2 := by
  refine bplain (pc' := 3) rfl dX6_isOf_2 rfl (ihN rfl) rfl ?_
  refine bplain (pc' := 4) rfl dX6_isOf_3 rfl (ihN rfl) rfl ?_
  refine bjmp (tg := 35) (pc' := 7) rfl (by decide) (by decide) rfl dX6_isOf_4 rfl (ihN rfl) rfl ?_
  refine bplain (pc' := 8) rfl dX6_isOf_7 rfl (ihN rfl) rfl ?_
  refine bplain (pc' := 9) rfl dX6_isOf_8 rfl (ihN rfl) rfl ?_
  refine bcall (pc' := 12) rfl dX6_isOf_9 rfl (trivial) (lcv (n := 1) rfl (pvc (lfv mt_X6_looks ⟨by decide, by decide⟩ mok_X6_looks ⟨by decide, by decide⟩ ⟨q2015, ln_222, Or.inl ⟨q2314, Or.inl q2016⟩⟩) (trivial)) (Or.inl (by decide))) (ihN rfl) rfl ?_
  refine bjmp (tg := 29) (pc' := 15) rfl (by decide) (by decide) rfl dX6_isOf_12 rfl (ihN rfl) rfl ?_
  refine bplain (pc' := 16) rfl dX6_isOf_15 rfl (ihN rfl) rfl ?_
  refine bplain (pc' := 17) rfl dX6_isOf_16 rfl (ihN rfl) rfl ?_
  refine bcall (pc' := 20) rfl dX6_isOf_17 rfl (trivial) (lcv (n := 1) rfl (pvc (lfv mt_X6_at ⟨by decide, by decide⟩ mok_X6_at ⟨by decide, by decide⟩ ⟨q1785, ln_342, Or.inl ⟨q1852, Or.inl q1786⟩⟩) (trivial)) (Or.inl (by decide))) (ihN rfl) rfl ?_
  refine bthr (pc' := 23) rfl dX6_isOf_20 rfl (lkf1 (host := "StrideTurns") (by decide) q1668 lf_310) (trivial) (ihN rfl) rfl ?_
  refine bplain (pc' := 24) rfl dX6_isOf_23 rfl (ihN rfl) rfl ?_
  refine bjmp (tg := 29) (pc' := 27) rfl (by decide) (by decide) rfl dX6_isOf_24 rfl (ihN rfl) rfl ?_
  refine bplain (pc' := 28) rfl dX6_isOf_27 rfl (ihN rfl) rfl ?_
  refine bret (pc' := 29) rfl dX6_isOf_28 rfl (Or.inr ⟨rfl, rfl⟩) (ihN rfl) rfl ?_
  exact trivial
theorem bf_X6_isOf_29 : BOKt mt tX6_isOf 268 29 b_X6_isOf_29 := by
  refine bplain (pc' := 32) rfl dX6_isOf_29 rfl (ihN rfl) rfl ?_
  refine bjmp (tg := 2) (pc' := 35) rfl (by decide) (by decide) rfl dX6_isOf_32 rfl (ihN rfl) rfl ?_
  exact trivial
theorem bf_X6_isOf_35 : BOKt mt tX6_isOf 268 35 b_X6_isOf_35 := by
  refine bplain (pc' := 36) rfl dX6_isOf_35 rfl (ihN rfl) rfl ?_
  refine bret (pc' := 37) rfl dX6_isOf_36 rfl (Or.inr ⟨rfl, rfl⟩) (ihN rfl) rfl ?_
  exact trivial
theorem tf_X6_isOf : ∀ x ∈ tb_X6_isOf, BOK mt 268 x.1 x.2 := tb_c mt_X6_isOf bf_X6_isOf_0 (tb_c mt_X6_isOf bf_X6_isOf_2 (tb_c mt_X6_isOf bf_X6_isOf_29 (tb_c mt_X6_isOf bf_X6_isOf_35 (tb_n))))
theorem bf_X0_isGathered_0 : BOKt mt tX0_isGathered 269 0 b_X0_isGathered_0 := by
  refine bplain (pc' := 1) rfl dX0_isGathered_0 rfl (ihN rfl) rfl ?_
  refine bplain (pc' := 2) rfl dX0_isGathered_1 rfl (ihN rfl) rfl ?_
  refine bplain (pc' := 3) rfl dX0_isGathered_2 rfl (ihN rfl) rfl ?_
  refine bplain (pc' := 5) rfl dX0_isGathered_3 rfl (ihN rfl) rfl ?_
  exact bnop0 rfl (by decide)
theorem bf_X0_isGathered_5 : BOKt mt tX0_isGathered 269 5 b_X0_isGathered_5 := by
  refine bnop1 ?_
  refine bplain (pc' := 7) rfl dX0_isGathered_5 rfl (ihN rfl) rfl ?_
  refine bplain (pc' := 8) rfl dX0_isGathered_7 rfl (ihN rfl) rfl ?_
  refine bthr (pc' := 11) rfl dX0_isGathered_8 rfl (lkf0 q1115 lf_116) (trivial) (ihN rfl) rfl ?_
  refine bcall (pc' := 14) rfl dX0_isGathered_11 rfl (trivial) (lcv (n := 0) rfl (pvc (lfv mt_J20_size ⟨by decide, by decide⟩ mok_J20_size ⟨by decide, by decide⟩ ⟨q1648, ln_40, Or.inl ⟨q1647, Or.inl q1649⟩⟩) (trivial)) (Or.inl (by decide))) (ihN rfl) rfl ?_
  refine bjmp (tg := 94) (pc' := 17) rfl (by decide) (by decide) rfl dX0_isGathered_14 rfl (ihN rfl) rfl ?_
  refine bplain (pc' := 18) rfl dX0_isGathered_17 rfl (ihN rfl) rfl ?_
  refine bthr (pc' := 21) rfl dX0_isGathered_18 rfl (lkf0 q1115 lf_116) (trivial) (ihN rfl) rfl ?_
  refine bplain (pc' := 23) rfl dX0_isGathered_21 rfl (ihN rfl) rfl ?_
  refine bcall (pc' := 26) rfl dX0_isGathered_23 rfl (trivial) (lcv (n := 1) rfl (pvc (lfv mt_J20_get ⟨by decide, by decide⟩ mok_J20_get ⟨by decide, by decide⟩ ⟨q1777, ln_338, Or.inl ⟨q1776, Or.inl q1778⟩⟩) (trivial)) (Or.inl (by decide))) (ihN rfl) rfl ?_
  refine bthr (pc' := 29) rfl dX0_isGathered_26 rfl (lkc (nm := "StrideTurns$Statement") q1651 lg_340 lb_341) (Or.inl rfl) (ihN rfl) rfl ?_
  refine bplain (pc' := 31) rfl dX0_isGathered_29 rfl (ihN rfl) rfl ?_
  refine bplain (pc' := 33) rfl dX0_isGathered_31 rfl (ihN rfl) rfl ?_
  refine bplain (pc' := 34) rfl dX0_isGathered_33 rfl (ihN rfl) rfl ?_
  refine bcall (pc' := 37) rfl dX0_isGathered_34 rfl (trivial) (lcv (n := 1) rfl (pvc (lfv mt_X6_isOf ⟨by decide, by decide⟩ mok_X6_isOf ⟨by decide, by decide⟩ ⟨q2311, ln_222, Or.inl ⟨q2310, Or.inl q2312⟩⟩) (trivial)) (Or.inl (by decide))) (ihN rfl) rfl ?_
  refine bjmp (tg := 43) (pc' := 40) rfl (by decide) (by decide) rfl dX0_isGathered_37 rfl (ihN rfl) rfl ?_
  refine bjmp (tg := 88) (pc' := 43) rfl (by decide) (by decide) rfl dX0_isGathered_40 rfl (ihN rfl) rfl ?_
  exact trivial
theorem bf_X0_isGathered_43 : BOKt mt tX0_isGathered 269 43 b_X0_isGathered_43 := by
  refine bplain (pc' := 45) rfl dX0_isGathered_43 rfl (ihN rfl) rfl ?_
  refine bplain (pc' := 46) rfl dX0_isGathered_45 rfl (ihN rfl) rfl ?_
  refine bcall (pc' := 49) rfl dX0_isGathered_46 rfl (trivial) (lcv (n := 1) rfl (pvc (lfv mt_X6_at ⟨by decide, by decide⟩ mok_X6_at ⟨by decide, by decide⟩ ⟨q1785, ln_342, Or.inl ⟨q1784, Or.inl q1786⟩⟩) (trivial)) (Or.inl (by decide))) (ihN rfl) rfl ?_
  refine bthr (pc' := 52) rfl dX0_isGathered_49 rfl (lkf1 (host := "StrideTurns") (by decide) q1669 lf_310) (trivial) (ihN rfl) rfl ?_
  refine bplain (pc' := 53) rfl dX0_isGathered_52 rfl (ihN rfl) rfl ?_
  refine bjmp (tg := 65) (pc' := 56) rfl (by decide) (by decide) rfl dX0_isGathered_53 rfl (ihN rfl) rfl ?_
  refine bplain (pc' := 58) rfl dX0_isGathered_56 rfl (ihN rfl) rfl ?_
  refine bplain (pc' := 59) rfl dX0_isGathered_58 rfl (ihN rfl) rfl ?_
  refine bcall (pc' := 62) rfl dX0_isGathered_59 rfl (trivial) (lcv (n := 1) rfl (pvc (lfv mt_X6_gathers ⟨by decide, by decide⟩ mok_X6_gathers ⟨by decide, by decide⟩ ⟨q1862, ln_225, Or.inl ⟨q2315, Or.inl q1863⟩⟩) (trivial)) (Or.inl (by decide))) (ihN rfl) rfl ?_
  refine bjmp (tg := 66) (pc' := 65) rfl (by decide) (by decide) rfl dX0_isGathered_62 rfl (ihN rfl) rfl ?_
  exact trivial
theorem bf_X0_isGathered_65 : BOKt mt tX0_isGathered 269 65 b_X0_isGathered_65 := by
  refine bplain (pc' := 66) rfl dX0_isGathered_65 rfl (ihN rfl) rfl ?_
  exact bnop0 rfl (by decide)
theorem bf_X0_isGathered_66 : BOKt mt tX0_isGathered 269 66 b_X0_isGathered_66 := by
  refine bnop1 ?_
  refine bplain (pc' := 68) rfl dX0_isGathered_66 rfl (ihN rfl) rfl ?_
  refine bplain (pc' := 70) rfl dX0_isGathered_68 rfl (ihN rfl) rfl ?_
  refine bjmp (tg := 83) (pc' := 73) rfl (by decide) (by decide) rfl dX0_isGathered_70 rfl (ihN rfl) rfl ?_
  refine bplain (pc' := 74) rfl dX0_isGathered_73 rfl (ihN rfl) rfl ?_
  refine bjmp (tg := 85) (pc' := 77) rfl (by decide) (by decide) rfl dX0_isGathered_74 rfl (ihN rfl) rfl ?_
  refine bplain (pc' := 79) rfl dX0_isGathered_77 rfl (ihN rfl) rfl ?_
  refine bplain (pc' := 80) rfl dX0_isGathered_79 rfl (ihN rfl) rfl ?_
  refine bjmp (tg := 85) (pc' := 83) rfl (by decide) (by decide) rfl dX0_isGathered_80 rfl (ihN rfl) rfl ?_
  exact bnop0 rfl (by decide)
theorem bf_X0_isGathered_83 : BOKt mt tX0_isGathered 269 83 b_X0_isGathered_83 := by
  refine bnop1 ?_
  refine bplain (pc' := 84) rfl dX0_isGathered_83 rfl (ihN rfl) rfl ?_
  refine bret (pc' := 85) rfl dX0_isGathered_84 rfl (Or.inr ⟨rfl, rfl⟩) (ihN rfl) rfl ?_
  exact trivial
theorem bf_X0_isGathered_85 : BOKt mt tX0_isGathered 269 85 b_X0_isGathered_85 := by
  refine bnop1 ?_
  refine bplain (pc' := 87) rfl dX0_isGathered_85 rfl (ihN rfl) rfl ?_
  refine bplain (pc' := 88) rfl dX0_isGathered_87 rfl (ihN rfl) rfl ?_
  exact bnop0 rfl (by decide)
theorem bf_X0_isGathered_88 : BOKt mt tX0_isGathered 269 88 b_X0_isGathered_88 := by
  refine bnop1 ?_
  refine bplain (pc' := 91) rfl dX0_isGathered_88 rfl (ihN rfl) rfl ?_
  refine bjmp (tg := 5) (pc' := 94) rfl (by decide) (by decide) rfl dX0_isGathered_91 rfl (ihN rfl) rfl ?_
  exact trivial
theorem bf_X0_isGathered_94 : BOKt mt tX0_isGathered 269 94 b_X0_isGathered_94 := by
  refine bplain (pc' := 95) rfl dX0_isGathered_94 rfl (ihN rfl) rfl ?_
  refine bjmp (tg := 102) (pc' := 98) rfl (by decide) (by decide) rfl dX0_isGathered_95 rfl (ihN rfl) rfl ?_
  refine bplain (pc' := 99) rfl dX0_isGathered_98 rfl (ihN rfl) rfl ?_
  refine bjmp (tg := 103) (pc' := 102) rfl (by decide) (by decide) rfl dX0_isGathered_99 rfl (ihN rfl) rfl ?_
  exact trivial
theorem bf_X0_isGathered_102 : BOKt mt tX0_isGathered 269 102 b_X0_isGathered_102 := by
  refine bplain (pc' := 103) rfl dX0_isGathered_102 rfl (ihN rfl) rfl ?_
  exact bnop0 rfl (by decide)
theorem bf_X0_isGathered_103 : BOKt mt tX0_isGathered 269 103 b_X0_isGathered_103 := by
  refine bnop1 ?_
  refine bret (pc' := 104) rfl dX0_isGathered_103 rfl (Or.inr ⟨rfl, rfl⟩) (ihN rfl) rfl ?_
  exact trivial
theorem tf_X0_isGathered : ∀ x ∈ tb_X0_isGathered, BOK mt 269 x.1 x.2 := tb_c mt_X0_isGathered bf_X0_isGathered_0 (tb_c mt_X0_isGathered bf_X0_isGathered_5 (tb_c mt_X0_isGathered bf_X0_isGathered_43 (tb_c mt_X0_isGathered bf_X0_isGathered_65 (tb_c mt_X0_isGathered bf_X0_isGathered_66 (tb_c mt_X0_isGathered bf_X0_isGathered_83 (tb_c mt_X0_isGathered bf_X0_isGathered_85 (tb_c mt_X0_isGathered bf_X0_isGathered_88 (tb_c mt_X0_isGathered bf_X0_isGathered_94 (tb_c mt_X0_isGathered bf_X0_isGathered_102 (tb_c mt_X0_isGathered bf_X0_isGathered_103 (tb_n)))))))))))
theorem bf_X0_waits_0 : BOKt mt tX0_waits 270 0 b_X0_waits_0 := by
  refine bplain (pc' := 1) rfl dX0_waits_0 rfl (ihN rfl) rfl ?_
  refine bplain (pc' := 2) rfl dX0_waits_1 rfl (ihN rfl) rfl ?_
  refine bplain (pc' := 3) rfl dX0_waits_2 rfl (ihN rfl) rfl ?_
  refine bplain (pc' := 5) rfl dX0_waits_3 rfl (ihN rfl) rfl ?_
  exact bnop0 rfl (by decide)
theorem bf_X0_waits_5 : BOKt mt tX0_waits 270 5 b_X0_waits_5 := by
  refine bplain (pc' := 7) rfl dX0_waits_5 rfl (ihN rfl) rfl ?_
  refine bplain (pc' := 8) rfl dX0_waits_7 rfl (ihN rfl) rfl ?_
  refine bthr (pc' := 11) rfl dX0_waits_8 rfl (lkf0 q1118 lf_270) (trivial) (ihN rfl) rfl ?_
  refine bjmp (tg := 57) (pc' := 14) rfl (by decide) (by decide) rfl dX0_waits_11 rfl (ihN rfl) rfl ?_
  refine bplain (pc' := 15) rfl dX0_waits_14 rfl (ihN rfl) rfl ?_
  refine bplain (pc' := 16) rfl dX0_waits_15 rfl (ihN rfl) rfl ?_
  refine bthr (pc' := 19) rfl dX0_waits_16 rfl (lkf0 q1122 lf_122) (trivial) (ihN rfl) rfl ?_
  refine bplain (pc' := 20) rfl dX0_waits_19 rfl (ihN rfl) rfl ?_
  refine bplain (pc' := 21) rfl dX0_waits_20 rfl (ihN rfl) rfl ?_
  refine bplain (pc' := 23) rfl dX0_waits_21 rfl (ihN rfl) rfl ?_
  refine bcall (pc' := 26) rfl dX0_waits_23 rfl (trivial) (lcs (l := q2243) mt_X0_setAt ⟨by decide, by decide⟩ mok_X0_setAt rfl ln_255 (Or.inl q2242)) (ihN rfl) rfl ?_
  refine bplain (pc' := 27) rfl dX0_waits_26 rfl (ihN rfl) rfl ?_
  refine bplain (pc' := 28) rfl dX0_waits_27 rfl (ihN rfl) rfl ?_
  refine bplain (pc' := 29) rfl dX0_waits_28 rfl (ihN rfl) rfl ?_
  refine bplain (pc' := 30) rfl dX0_waits_29 rfl (ihN rfl) rfl ?_
  refine bjmp (tg := 36) (pc' := 33) rfl (by decide) (by decide) rfl dX0_waits_30 rfl (ihN rfl) rfl ?_
  refine bplain (pc' := 35) rfl dX0_waits_33 rfl (ihN rfl) rfl ?_
  refine bret (pc' := 36) rfl dX0_waits_35 rfl (Or.inl ⟨rfl, rfl⟩) (ihN rfl) rfl ?_
  exact trivial
theorem bf_X0_waits_36 : BOKt mt tX0_waits 270 36 b_X0_waits_36 := by
  refine bplain (pc' := 37) rfl dX0_waits_36 rfl (ihN rfl) rfl ?_
  refine bplain (pc' := 38) rfl dX0_waits_37 rfl (ihN rfl) rfl ?_
  refine bthr (pc' := 41) rfl dX0_waits_38 rfl (lkf0 q1122 lf_122) (trivial) (ihN rfl) rfl ?_
  refine bplain (pc' := 42) rfl dX0_waits_41 rfl (ihN rfl) rfl ?_
  refine bplain (pc' := 43) rfl dX0_waits_42 rfl (ihN rfl) rfl ?_
  refine bplain (pc' := 45) rfl dX0_waits_43 rfl (ihN rfl) rfl ?_
  refine bcall (pc' := 48) rfl dX0_waits_45 rfl (trivial) (lcs (l := q2243) mt_X0_setAt ⟨by decide, by decide⟩ mok_X0_setAt rfl ln_255 (Or.inl q2242)) (ihN rfl) rfl ?_
  refine bplain (pc' := 49) rfl dX0_waits_48 rfl (ihN rfl) rfl ?_
  refine bplain (pc' := 50) rfl dX0_waits_49 rfl (ihN rfl) rfl ?_
  refine bplain (pc' := 51) rfl dX0_waits_50 rfl (ihN rfl) rfl ?_
  refine bplain (pc' := 54) rfl dX0_waits_51 rfl (ihN rfl) rfl ?_
  refine bjmp (tg := 5) (pc' := 57) rfl (by decide) (by decide) rfl dX0_waits_54 rfl (ihN rfl) rfl ?_
  exact trivial
theorem bf_X0_waits_57 : BOKt mt tX0_waits 270 57 b_X0_waits_57 := by
  refine bplain (pc' := 58) rfl dX0_waits_57 rfl (ihN rfl) rfl ?_
  refine bret (pc' := 59) rfl dX0_waits_58 rfl (Or.inl ⟨rfl, rfl⟩) (ihN rfl) rfl ?_
  exact trivial
theorem tf_X0_waits : ∀ x ∈ tb_X0_waits, BOK mt 270 x.1 x.2 := tb_c mt_X0_waits bf_X0_waits_0 (tb_c mt_X0_waits bf_X0_waits_5 (tb_c mt_X0_waits bf_X0_waits_36 (tb_c mt_X0_waits bf_X0_waits_57 (tb_n))))
theorem bf_X0_verdictBy_0 : BOKt mt tX0_verdictBy 271 0 b_X0_verdictBy_0 := by
  refine bplain (pc' := 1) rfl dX0_verdictBy_0 rfl (ihN rfl) rfl ?_
  refine bplain (pc' := 2) rfl dX0_verdictBy_1 rfl (ihN rfl) rfl ?_
  refine bplain (pc' := 3) rfl dX0_verdictBy_2 rfl (ihN rfl) rfl ?_
  refine bplain (pc' := 4) rfl dX0_verdictBy_3 rfl (ihN rfl) rfl ?_
  refine bcall (pc' := 7) rfl dX0_verdictBy_4 rfl (trivial) (lcv (n := 3) rfl (pvc (lfv mt_X0_bitsOf ⟨by decide, by decide⟩ mok_X0_bitsOf ⟨by decide, by decide⟩ ⟨q2262, ln_440, Or.inl ⟨q2260, Or.inl qs29⟩⟩) (trivial)) (Or.inl (by decide))) (ihN rfl) rfl ?_
  refine bplain (pc' := 8) rfl dX0_verdictBy_7 rfl (ihN rfl) rfl ?_
  refine bplain (pc' := 9) rfl dX0_verdictBy_8 rfl (ihN rfl) rfl ?_
  refine bjmp (tg := 14) (pc' := 12) rfl (by decide) (by decide) rfl dX0_verdictBy_9 rfl (ihN rfl) rfl ?_
  refine bplain (pc' := 13) rfl dX0_verdictBy_12 rfl (ihN rfl) rfl ?_
  refine bret (pc' := 14) rfl dX0_verdictBy_13 rfl (Or.inl ⟨rfl, rfl⟩) (ihN rfl) rfl ?_
  exact trivial
theorem bf_X0_verdictBy_14 : BOKt mt tX0_verdictBy 271 14 b_X0_verdictBy_14 := by
  refine bplain (pc' := 15) rfl dX0_verdictBy_14 rfl (ihN rfl) rfl ?_
  refine bplain (pc' := 16) rfl dX0_verdictBy_15 rfl (ihN rfl) rfl ?_
  refine bcall (pc' := 19) rfl dX0_verdictBy_16 rfl (trivial) (lcv (n := 1) rfl (pvc (lfv mt_X0_isShared ⟨by decide, by decide⟩ mok_X0_isShared ⟨by decide, by decide⟩ ⟨q2304, ln_222, Or.inl ⟨q2302, Or.inl qs32⟩⟩) (trivial)) (Or.inl (by decide))) (ihN rfl) rfl ?_
  refine bjmp (tg := 24) (pc' := 22) rfl (by decide) (by decide) rfl dX0_verdictBy_19 rfl (ihN rfl) rfl ?_
  refine bplain (pc' := 23) rfl dX0_verdictBy_22 rfl (ihN rfl) rfl ?_
  refine bret (pc' := 24) rfl dX0_verdictBy_23 rfl (Or.inl ⟨rfl, rfl⟩) (ihN rfl) rfl ?_
  exact trivial
theorem bf_X0_verdictBy_24 : BOKt mt tX0_verdictBy 271 24 b_X0_verdictBy_24 := by
  refine bplain (pc' := 25) rfl dX0_verdictBy_24 rfl (ihN rfl) rfl ?_
  refine bplain (pc' := 26) rfl dX0_verdictBy_25 rfl (ihN rfl) rfl ?_
  refine bplain (pc' := 27) rfl dX0_verdictBy_26 rfl (ihN rfl) rfl ?_
  refine bcall (pc' := 30) rfl dX0_verdictBy_27 rfl (trivial) (lcv (n := 2) rfl (pvc (lfv mt_X0_isGathered ⟨by decide, by decide⟩ mok_X0_isGathered ⟨by decide, by decide⟩ ⟨q2308, ln_339, Or.inl ⟨q2306, Or.inl qs33⟩⟩) (trivial)) (Or.inl (by decide))) (ihN rfl) rfl ?_
  refine bjmp (tg := 35) (pc' := 33) rfl (by decide) (by decide) rfl dX0_verdictBy_30 rfl (ihN rfl) rfl ?_
  refine bplain (pc' := 34) rfl dX0_verdictBy_33 rfl (ihN rfl) rfl ?_
  refine bret (pc' := 35) rfl dX0_verdictBy_34 rfl (Or.inl ⟨rfl, rfl⟩) (ihN rfl) rfl ?_
  exact trivial
theorem bf_X0_verdictBy_35 : BOKt mt tX0_verdictBy 271 35 b_X0_verdictBy_35 := by
  refine bplain (pc' := 36) rfl dX0_verdictBy_35 rfl (ihN rfl) rfl ?_
  refine bplain (pc' := 37) rfl dX0_verdictBy_36 rfl (ihN rfl) rfl ?_
  refine bcall (pc' := 40) rfl dX0_verdictBy_37 rfl (trivial) (lcv (n := 1) rfl (pvc (lfv mt_X0_waits ⟨by decide, by decide⟩ mok_X0_waits ⟨by decide, by decide⟩ ⟨q2318, ln_225, Or.inl ⟨q2316, Or.inl qs34⟩⟩) (trivial)) (Or.inl (by decide))) (ihN rfl) rfl ?_
  refine bplain (pc' := 41) rfl dX0_verdictBy_40 rfl (ihN rfl) rfl ?_
  refine bjmp (tg := 48) (pc' := 44) rfl (by decide) (by decide) rfl dX0_verdictBy_41 rfl (ihN rfl) rfl ?_
  refine bplain (pc' := 45) rfl dX0_verdictBy_44 rfl (ihN rfl) rfl ?_
  refine bjmp (tg := 49) (pc' := 48) rfl (by decide) (by decide) rfl dX0_verdictBy_45 rfl (ihN rfl) rfl ?_
  exact trivial
theorem bf_X0_verdictBy_48 : BOKt mt tX0_verdictBy 271 48 b_X0_verdictBy_48 := by
  refine bplain (pc' := 49) rfl dX0_verdictBy_48 rfl (ihN rfl) rfl ?_
  exact bnop0 rfl (by decide)
theorem bf_X0_verdictBy_49 : BOKt mt tX0_verdictBy 271 49 b_X0_verdictBy_49 := by
  refine bnop1 ?_
  refine bret (pc' := 50) rfl dX0_verdictBy_49 rfl (Or.inl ⟨rfl, rfl⟩) (ihN rfl) rfl ?_
  exact trivial
theorem tf_X0_verdictBy : ∀ x ∈ tb_X0_verdictBy, BOK mt 271 x.1 x.2 := tb_c mt_X0_verdictBy bf_X0_verdictBy_0 (tb_c mt_X0_verdictBy bf_X0_verdictBy_14 (tb_c mt_X0_verdictBy bf_X0_verdictBy_24 (tb_c mt_X0_verdictBy bf_X0_verdictBy_35 (tb_c mt_X0_verdictBy bf_X0_verdictBy_48 (tb_c mt_X0_verdictBy bf_X0_verdictBy_49 (tb_n))))))
theorem bf_X0_verdictOf_0 : BOKt mt tX0_verdictOf 272 0 b_X0_verdictOf_0 := by
  refine bplain (pc' := 1) rfl dX0_verdictOf_0 rfl (ihN rfl) rfl ?_
  refine bplain (pc' := 2) rfl dX0_verdictOf_1 rfl (ihN rfl) rfl ?_
  refine bcall (pc' := 5) rfl dX0_verdictOf_2 rfl (trivial) (lcv (n := 1) rfl (pvc (lfv mt_X0_numbers ⟨by decide, by decide⟩ mok_X0_numbers ⟨by decide, by decide⟩ ⟨q1855, ln_376, Or.inl ⟨q2233, Or.inl qs17⟩⟩) (trivial)) (Or.inl (by decide))) (ihN rfl) rfl ?_
  refine bplain (pc' := 6) rfl dX0_verdictOf_5 rfl (ihN rfl) rfl ?_
  refine bplain (pc' := 7) rfl dX0_verdictOf_6 rfl (ihN rfl) rfl ?_
  refine bjmp (tg := 14) (pc' := 10) rfl (by decide) (by decide) rfl dX0_verdictOf_7 rfl (ihN rfl) rfl ?_
  refine bplain (pc' := 11) rfl dX0_verdictOf_10 rfl (ihN rfl) rfl ?_
  refine bjmp (tg := 23) (pc' := 14) rfl (by decide) (by decide) rfl dX0_verdictOf_11 rfl (ihN rfl) rfl ?_
  exact trivial
theorem bf_X0_verdictOf_14 : BOKt mt tX0_verdictOf 272 14 b_X0_verdictOf_14 := by
  refine bplain (pc' := 15) rfl dX0_verdictOf_14 rfl (ihN rfl) rfl ?_
  refine bplain (pc' := 16) rfl dX0_verdictOf_15 rfl (ihN rfl) rfl ?_
  refine bplain (pc' := 17) rfl dX0_verdictOf_16 rfl (ihN rfl) rfl ?_
  refine bthr (pc' := 20) rfl dX0_verdictOf_17 rfl (lkf1 (host := "StrideTurns") (by decide) q1229 lf_211) (trivial) (ihN rfl) rfl ?_
  refine bcall (pc' := 23) rfl dX0_verdictOf_20 rfl (trivial) (lcv (n := 2) rfl (pvc (lfv mt_X0_verdictBy ⟨by decide, by decide⟩ mok_X0_verdictBy ⟨by decide, by decide⟩ ⟨q2300, ln_252, Or.inl ⟨q2298, Or.inl qs31⟩⟩) (trivial)) (Or.inl (by decide))) (ihN rfl) rfl ?_
  exact bnop0 rfl (by decide)
theorem bf_X0_verdictOf_23 : BOKt mt tX0_verdictOf 272 23 b_X0_verdictOf_23 := by
  refine bnop1 ?_
  refine bret (pc' := 24) rfl dX0_verdictOf_23 rfl (Or.inl ⟨rfl, rfl⟩) (ihN rfl) rfl ?_
  exact trivial
theorem tf_X0_verdictOf : ∀ x ∈ tb_X0_verdictOf, BOK mt 272 x.1 x.2 := tb_c mt_X0_verdictOf bf_X0_verdictOf_0 (tb_c mt_X0_verdictOf bf_X0_verdictOf_14 (tb_c mt_X0_verdictOf bf_X0_verdictOf_23 (tb_n)))
theorem bf_X0_verdict_0 : BOKt mt tX0_verdict 273 0 b_X0_verdict_0 := by
  refine bplain (pc' := 1) rfl dX0_verdict_0 rfl (ihN rfl) rfl ?_
  refine bcall (pc' := 4) rfl dX0_verdict_1 rfl (trivial) (lcs (l := q1210) mt_X0_isRow ⟨by decide, by decide⟩ mok_X0_isRow rfl ln_222 (Or.inl q1209)) (ihN rfl) rfl ?_
  refine bjmp (tg := 10) (pc' := 7) rfl (by decide) (by decide) rfl dX0_verdict_4 rfl (ihN rfl) rfl ?_
  refine bplain (pc' := 9) rfl dX0_verdict_7 rfl (ihN rfl) rfl ?_
  refine bret (pc' := 10) rfl dX0_verdict_9 rfl (Or.inl ⟨rfl, rfl⟩) (ihN rfl) rfl ?_
  exact trivial
theorem bf_X0_verdict_10 : BOKt mt tX0_verdict 273 10 b_X0_verdict_10 := by
  refine bplain (pc' := 11) rfl dX0_verdict_10 rfl (ihN rfl) rfl ?_
  refine bcall (pc' := 14) rfl dX0_verdict_11 rfl (trivial) (lcv (n := 0) rfl (pvc (lfv mt_X0_knows ⟨by decide, by decide⟩ mok_X0_knows ⟨by decide, by decide⟩ ⟨q2223, ln_0, Or.inl ⟨q2221, Or.inl qs24⟩⟩) (trivial)) (Or.inl (by decide))) (ihN rfl) rfl ?_
  refine bplain (pc' := 15) rfl dX0_verdict_14 rfl (ihN rfl) rfl ?_
  refine bplain (pc' := 16) rfl dX0_verdict_15 rfl (ihN rfl) rfl ?_
  refine bcall (pc' := 19) rfl dX0_verdict_16 rfl (trivial) (lcv (n := 1) rfl (pvc (lfv mt_X0_verdictOf ⟨by decide, by decide⟩ mok_X0_verdictOf ⟨by decide, by decide⟩ ⟨q2296, ln_225, Or.inl ⟨q2294, Or.inl qs30⟩⟩) (trivial)) (Or.inl (by decide))) (ihN rfl) rfl ?_
  refine bret (pc' := 20) rfl dX0_verdict_19 rfl (Or.inl ⟨rfl, rfl⟩) (ihN rfl) rfl ?_
  exact trivial
theorem tf_X0_verdict : ∀ x ∈ tb_X0_verdict, BOK mt 273 x.1 x.2 := tb_c mt_X0_verdict bf_X0_verdict_0 (tb_c mt_X0_verdict bf_X0_verdict_10 (tb_n))
theorem bf_X3_isWritten_0 : BOKt mt tX3_isWritten 274 0 b_X3_isWritten_0 := by
  refine bplain (pc' := 1) rfl dX3_isWritten_0 rfl (ihN rfl) rfl ?_
  refine bplain (pc' := 2) rfl dX3_isWritten_1 rfl (ihN rfl) rfl ?_
  refine bplain (pc' := 3) rfl dX3_isWritten_2 rfl (ihN rfl) rfl ?_
  refine bplain (pc' := 4) rfl dX3_isWritten_3 rfl (ihN rfl) rfl ?_
  exact bnop0 rfl (by decide)
theorem bf_X3_isWritten_4 : BOKt mt tX3_isWritten 274 4 b_X3_isWritten_4 := by
  refine bplain (pc' := 5) rfl dX3_isWritten_4 rfl (ihN rfl) rfl ?_
  refine bplain (pc' := 6) rfl dX3_isWritten_5 rfl (ihN rfl) rfl ?_
  refine bthr (pc' := 9) rfl dX3_isWritten_6 rfl (lkf0 q2603 lf_274) (trivial) (ihN rfl) rfl ?_
  refine bjmp (tg := 28) (pc' := 12) rfl (by decide) (by decide) rfl dX3_isWritten_9 rfl (ihN rfl) rfl ?_
  refine bplain (pc' := 13) rfl dX3_isWritten_12 rfl (ihN rfl) rfl ?_
  refine bplain (pc' := 14) rfl dX3_isWritten_13 rfl (ihN rfl) rfl ?_
  refine bplain (pc' := 15) rfl dX3_isWritten_14 rfl (ihN rfl) rfl ?_
  refine bplain (pc' := 16) rfl dX3_isWritten_15 rfl (ihN rfl) rfl ?_
  refine bplain (pc' := 17) rfl dX3_isWritten_16 rfl (ihN rfl) rfl ?_
  refine bcall (pc' := 20) rfl dX3_isWritten_17 rfl (trivial) (lcv (n := 3) rfl (pvc (lfv mt_X3_bitsOfTurn ⟨by decide, by decide⟩ mok_X3_bitsOfTurn ⟨by decide, by decide⟩ ⟨q2973, ln_255, Or.inl ⟨q2971, Or.inl qs95⟩⟩) (trivial)) (Or.inl (by decide))) (ihN rfl) rfl ?_
  refine bplain (pc' := 21) rfl dX3_isWritten_20 rfl (ihN rfl) rfl ?_
  refine bplain (pc' := 22) rfl dX3_isWritten_21 rfl (ihN rfl) rfl ?_
  refine bplain (pc' := 25) rfl dX3_isWritten_22 rfl (ihN rfl) rfl ?_
  refine bjmp (tg := 4) (pc' := 28) rfl (by decide) (by decide) rfl dX3_isWritten_25 rfl (ihN rfl) rfl ?_
  exact trivial
theorem bf_X3_isWritten_28 : BOKt mt tX3_isWritten 274 28 b_X3_isWritten_28 := by
  refine bplain (pc' := 29) rfl dX3_isWritten_28 rfl (ihN rfl) rfl ?_
  refine bjmp (tg := 36) (pc' := 32) rfl (by decide) (by decide) rfl dX3_isWritten_29 rfl (ihN rfl) rfl ?_
  refine bplain (pc' := 33) rfl dX3_isWritten_32 rfl (ihN rfl) rfl ?_
  refine bjmp (tg := 37) (pc' := 36) rfl (by decide) (by decide) rfl dX3_isWritten_33 rfl (ihN rfl) rfl ?_
  exact trivial
theorem bf_X3_isWritten_36 : BOKt mt tX3_isWritten 274 36 b_X3_isWritten_36 := by
  refine bplain (pc' := 37) rfl dX3_isWritten_36 rfl (ihN rfl) rfl ?_
  exact bnop0 rfl (by decide)
theorem bf_X3_isWritten_37 : BOKt mt tX3_isWritten 274 37 b_X3_isWritten_37 := by
  refine bnop1 ?_
  refine bret (pc' := 38) rfl dX3_isWritten_37 rfl (Or.inr ⟨rfl, rfl⟩) (ihN rfl) rfl ?_
  exact trivial
theorem tf_X3_isWritten : ∀ x ∈ tb_X3_isWritten, BOK mt 274 x.1 x.2 := tb_c mt_X3_isWritten bf_X3_isWritten_0 (tb_c mt_X3_isWritten bf_X3_isWritten_4 (tb_c mt_X3_isWritten bf_X3_isWritten_28 (tb_c mt_X3_isWritten bf_X3_isWritten_36 (tb_c mt_X3_isWritten bf_X3_isWritten_37 (tb_n)))))
theorem bf_X3_isShared_0 : BOKt mt tX3_isShared 275 0 b_X3_isShared_0 := by
  refine bplain (pc' := 1) rfl dX3_isShared_0 rfl (ihN rfl) rfl ?_
  refine bplain (pc' := 2) rfl dX3_isShared_1 rfl (ihN rfl) rfl ?_
  refine bplain (pc' := 3) rfl dX3_isShared_2 rfl (ihN rfl) rfl ?_
  refine bplain (pc' := 4) rfl dX3_isShared_3 rfl (ihN rfl) rfl ?_
  exact bnop0 rfl (by decide)
theorem bf_X3_isShared_4 : BOKt mt tX3_isShared 275 4 b_X3_isShared_4 := by
  refine bnop1 ?_
  refine bplain (pc' := 5) rfl dX3_isShared_4 rfl (ihN rfl) rfl ?_
  refine bplain (pc' := 6) rfl dX3_isShared_5 rfl (ihN rfl) rfl ?_
  refine bthr (pc' := 9) rfl dX3_isShared_6 rfl (lkf0 q2603 lf_274) (trivial) (ihN rfl) rfl ?_
  refine bjmp (tg := 84) (pc' := 12) rfl (by decide) (by decide) rfl dX3_isShared_9 rfl (ihN rfl) rfl ?_
  refine bplain (pc' := 13) rfl dX3_isShared_12 rfl (ihN rfl) rfl ?_
  refine bplain (pc' := 15) rfl dX3_isShared_13 rfl (ihN rfl) rfl ?_
  exact bnop0 rfl (by decide)
theorem bf_X3_isShared_15 : BOKt mt tX3_isShared 275 15 b_X3_isShared_15 := by
  refine bnop1 ?_
  refine bplain (pc' := 17) rfl dX3_isShared_15 rfl (ihN rfl) rfl ?_
  refine bplain (pc' := 18) rfl dX3_isShared_17 rfl (ihN rfl) rfl ?_
  refine bthr (pc' := 21) rfl dX3_isShared_18 rfl (lkf0 q2603 lf_274) (trivial) (ihN rfl) rfl ?_
  refine bjmp (tg := 78) (pc' := 24) rfl (by decide) (by decide) rfl dX3_isShared_21 rfl (ihN rfl) rfl ?_
  refine bplain (pc' := 25) rfl dX3_isShared_24 rfl (ihN rfl) rfl ?_
  refine bplain (pc' := 26) rfl dX3_isShared_25 rfl (ihN rfl) rfl ?_
  refine bplain (pc' := 27) rfl dX3_isShared_26 rfl (ihN rfl) rfl ?_
  refine bplain (pc' := 29) rfl dX3_isShared_27 rfl (ihN rfl) rfl ?_
  refine bcall (pc' := 32) rfl dX3_isShared_29 rfl (trivial) (lcv (n := 3) rfl (pvc (lfv mt_X3_bitsOfTurn ⟨by decide, by decide⟩ mok_X3_bitsOfTurn ⟨by decide, by decide⟩ ⟨q2973, ln_255, Or.inl ⟨q2971, Or.inl qs95⟩⟩) (trivial)) (Or.inl (by decide))) (ihN rfl) rfl ?_
  refine bplain (pc' := 33) rfl dX3_isShared_32 rfl (ihN rfl) rfl ?_
  refine bplain (pc' := 34) rfl dX3_isShared_33 rfl (ihN rfl) rfl ?_
  refine bplain (pc' := 35) rfl dX3_isShared_34 rfl (ihN rfl) rfl ?_
  refine bplain (pc' := 37) rfl dX3_isShared_35 rfl (ihN rfl) rfl ?_
  refine bcall (pc' := 40) rfl dX3_isShared_37 rfl (trivial) (lcv (n := 3) rfl (pvc (lfv mt_X3_bitsOfTurn ⟨by decide, by decide⟩ mok_X3_bitsOfTurn ⟨by decide, by decide⟩ ⟨q2973, ln_255, Or.inl ⟨q2971, Or.inl qs95⟩⟩) (trivial)) (Or.inl (by decide))) (ihN rfl) rfl ?_
  refine bplain (pc' := 41) rfl dX3_isShared_40 rfl (ihN rfl) rfl ?_
  refine bplain (pc' := 43) rfl dX3_isShared_41 rfl (ihN rfl) rfl ?_
  refine bplain (pc' := 44) rfl dX3_isShared_43 rfl (ihN rfl) rfl ?_
  refine bjmp (tg := 70) (pc' := 47) rfl (by decide) (by decide) rfl dX3_isShared_44 rfl (ihN rfl) rfl ?_
  refine bplain (pc' := 48) rfl dX3_isShared_47 rfl (ihN rfl) rfl ?_
  refine bplain (pc' := 50) rfl dX3_isShared_48 rfl (ihN rfl) rfl ?_
  refine bjmp (tg := 66) (pc' := 53) rfl (by decide) (by decide) rfl dX3_isShared_50 rfl (ihN rfl) rfl ?_
  refine bplain (pc' := 54) rfl dX3_isShared_53 rfl (ihN rfl) rfl ?_
  refine bplain (pc' := 55) rfl dX3_isShared_54 rfl (ihN rfl) rfl ?_
  refine bplain (pc' := 56) rfl dX3_isShared_55 rfl (ihN rfl) rfl ?_
  refine bplain (pc' := 57) rfl dX3_isShared_56 rfl (ihN rfl) rfl ?_
  refine bcall (pc' := 60) rfl dX3_isShared_57 rfl (trivial) (lcv (n := 3) rfl (pvc (lfv mt_X3_bitsOfTurn ⟨by decide, by decide⟩ mok_X3_bitsOfTurn ⟨by decide, by decide⟩ ⟨q2973, ln_255, Or.inl ⟨q2971, Or.inl qs95⟩⟩) (trivial)) (Or.inl (by decide))) (ihN rfl) rfl ?_
  refine bplain (pc' := 62) rfl dX3_isShared_60 rfl (ihN rfl) rfl ?_
  refine bplain (pc' := 63) rfl dX3_isShared_62 rfl (ihN rfl) rfl ?_
  refine bjmp (tg := 70) (pc' := 66) rfl (by decide) (by decide) rfl dX3_isShared_63 rfl (ihN rfl) rfl ?_
  exact bnop0 rfl (by decide)
theorem bf_X3_isShared_66 : BOKt mt tX3_isShared 275 66 b_X3_isShared_66 := by
  refine bnop1 ?_
  refine bplain (pc' := 67) rfl dX3_isShared_66 rfl (ihN rfl) rfl ?_
  refine bjmp (tg := 71) (pc' := 70) rfl (by decide) (by decide) rfl dX3_isShared_67 rfl (ihN rfl) rfl ?_
  exact trivial
theorem bf_X3_isShared_70 : BOKt mt tX3_isShared 275 70 b_X3_isShared_70 := by
  refine bnop1 ?_
  refine bplain (pc' := 71) rfl dX3_isShared_70 rfl (ihN rfl) rfl ?_
  exact bnop0 rfl (by decide)
theorem bf_X3_isShared_71 : BOKt mt tX3_isShared 275 71 b_X3_isShared_71 := by
  refine bnop1 ?_
  refine bplain (pc' := 72) rfl dX3_isShared_71 rfl (ihN rfl) rfl ?_
  refine bplain (pc' := 75) rfl dX3_isShared_72 rfl (ihN rfl) rfl ?_
  refine bjmp (tg := 15) (pc' := 78) rfl (by decide) (by decide) rfl dX3_isShared_75 rfl (ihN rfl) rfl ?_
  exact trivial
theorem bf_X3_isShared_78 : BOKt mt tX3_isShared 275 78 b_X3_isShared_78 := by
  refine bplain (pc' := 81) rfl dX3_isShared_78 rfl (ihN rfl) rfl ?_
  refine bjmp (tg := 4) (pc' := 84) rfl (by decide) (by decide) rfl dX3_isShared_81 rfl (ihN rfl) rfl ?_
  exact trivial
theorem bf_X3_isShared_84 : BOKt mt tX3_isShared 275 84 b_X3_isShared_84 := by
  refine bplain (pc' := 85) rfl dX3_isShared_84 rfl (ihN rfl) rfl ?_
  refine bret (pc' := 86) rfl dX3_isShared_85 rfl (Or.inr ⟨rfl, rfl⟩) (ihN rfl) rfl ?_
  exact trivial
theorem tf_X3_isShared : ∀ x ∈ tb_X3_isShared, BOK mt 275 x.1 x.2 := tb_c mt_X3_isShared bf_X3_isShared_0 (tb_c mt_X3_isShared bf_X3_isShared_4 (tb_c mt_X3_isShared bf_X3_isShared_15 (tb_c mt_X3_isShared bf_X3_isShared_66 (tb_c mt_X3_isShared bf_X3_isShared_70 (tb_c mt_X3_isShared bf_X3_isShared_71 (tb_c mt_X3_isShared bf_X3_isShared_78 (tb_c mt_X3_isShared bf_X3_isShared_84 (tb_n))))))))
theorem bf_X3_isAbout_0 : BOKt mt tX3_isAbout 276 0 b_X3_isAbout_0 := by
  refine bplain (pc' := 1) rfl dX3_isAbout_0 rfl (ihN rfl) rfl ?_
  refine bthr (pc' := 4) rfl dX3_isAbout_1 rfl (lkf0 q2610 lf_165) (trivial) (ihN rfl) rfl ?_
  refine bplain (pc' := 5) rfl dX3_isAbout_4 rfl (ihN rfl) rfl ?_
  refine bplain (pc' := 6) rfl dX3_isAbout_5 rfl (ihN rfl) rfl ?_
  refine bplain (pc' := 7) rfl dX3_isAbout_6 rfl (ihN rfl) rfl ?_
  refine bplain (pc' := 8) rfl dX3_isAbout_7 rfl (ihN rfl) rfl ?_
  refine bplain (pc' := 9) rfl dX3_isAbout_8 rfl (ihN rfl) rfl ?_
  refine bjmp (tg := 51) (pc' := 12) rfl (by decide) (by decide) rfl dX3_isAbout_9 rfl (ihN rfl) rfl ?_
  refine bplain (pc' := 13) rfl dX3_isAbout_12 rfl (ihN rfl) rfl ?_
  refine bthr (pc' := 16) rfl dX3_isAbout_13 rfl (lkf0 q2610 lf_165) (trivial) (ihN rfl) rfl ?_
  refine bplain (pc' := 17) rfl dX3_isAbout_16 rfl (ihN rfl) rfl ?_
  refine bplain (pc' := 18) rfl dX3_isAbout_17 rfl (ihN rfl) rfl ?_
  refine bplain (pc' := 19) rfl dX3_isAbout_18 rfl (ihN rfl) rfl ?_
  refine bplain (pc' := 20) rfl dX3_isAbout_19 rfl (ihN rfl) rfl ?_
  refine bplain (pc' := 21) rfl dX3_isAbout_20 rfl (ihN rfl) rfl ?_
  refine bplain (pc' := 22) rfl dX3_isAbout_21 rfl (ihN rfl) rfl ?_
  refine bplain (pc' := 23) rfl dX3_isAbout_22 rfl (ihN rfl) rfl ?_
  refine bjmp (tg := 51) (pc' := 26) rfl (by decide) (by decide) rfl dX3_isAbout_23 rfl (ihN rfl) rfl ?_
  refine bplain (pc' := 27) rfl dX3_isAbout_26 rfl (ihN rfl) rfl ?_
  refine bthr (pc' := 30) rfl dX3_isAbout_27 rfl (lkf0 q2610 lf_165) (trivial) (ihN rfl) rfl ?_
  refine bplain (pc' := 31) rfl dX3_isAbout_30 rfl (ihN rfl) rfl ?_
  refine bplain (pc' := 32) rfl dX3_isAbout_31 rfl (ihN rfl) rfl ?_
  refine bplain (pc' := 33) rfl dX3_isAbout_32 rfl (ihN rfl) rfl ?_
  refine bplain (pc' := 34) rfl dX3_isAbout_33 rfl (ihN rfl) rfl ?_
  refine bplain (pc' := 35) rfl dX3_isAbout_34 rfl (ihN rfl) rfl ?_
  refine bplain (pc' := 36) rfl dX3_isAbout_35 rfl (ihN rfl) rfl ?_
  refine bplain (pc' := 37) rfl dX3_isAbout_36 rfl (ihN rfl) rfl ?_
  refine bjmp (tg := 55) (pc' := 40) rfl (by decide) (by decide) rfl dX3_isAbout_37 rfl (ihN rfl) rfl ?_
  refine bplain (pc' := 41) rfl dX3_isAbout_40 rfl (ihN rfl) rfl ?_
  refine bthr (pc' := 44) rfl dX3_isAbout_41 rfl (lkf0 q2605 lf_155) (trivial) (ihN rfl) rfl ?_
  refine bplain (pc' := 45) rfl dX3_isAbout_44 rfl (ihN rfl) rfl ?_
  refine bplain (pc' := 46) rfl dX3_isAbout_45 rfl (ihN rfl) rfl ?_
  refine bplain (pc' := 48) rfl dX3_isAbout_46 rfl (ihN rfl) rfl ?_
  refine bjmp (tg := 55) (pc' := 51) rfl (by decide) (by decide) rfl dX3_isAbout_48 rfl (ihN rfl) rfl ?_
  exact bnop0 rfl (by decide)
theorem bf_X3_isAbout_51 : BOKt mt tX3_isAbout 276 51 b_X3_isAbout_51 := by
  refine bnop1 ?_
  refine bplain (pc' := 52) rfl dX3_isAbout_51 rfl (ihN rfl) rfl ?_
  refine bjmp (tg := 56) (pc' := 55) rfl (by decide) (by decide) rfl dX3_isAbout_52 rfl (ihN rfl) rfl ?_
  exact trivial
theorem bf_X3_isAbout_55 : BOKt mt tX3_isAbout 276 55 b_X3_isAbout_55 := by
  refine bnop1 ?_
  refine bplain (pc' := 56) rfl dX3_isAbout_55 rfl (ihN rfl) rfl ?_
  exact bnop0 rfl (by decide)
theorem bf_X3_isAbout_56 : BOKt mt tX3_isAbout 276 56 b_X3_isAbout_56 := by
  refine bnop1 ?_
  refine bret (pc' := 57) rfl dX3_isAbout_56 rfl (Or.inr ⟨rfl, rfl⟩) (ihN rfl) rfl ?_
  exact trivial
theorem tf_X3_isAbout : ∀ x ∈ tb_X3_isAbout, BOK mt 276 x.1 x.2 := tb_c mt_X3_isAbout bf_X3_isAbout_0 (tb_c mt_X3_isAbout bf_X3_isAbout_51 (tb_c mt_X3_isAbout bf_X3_isAbout_55 (tb_c mt_X3_isAbout bf_X3_isAbout_56 (tb_n))))
theorem bf_X3_isGathered_0 : BOKt mt tX3_isGathered 277 0 b_X3_isGathered_0 := by
  refine bplain (pc' := 1) rfl dX3_isGathered_0 rfl (ihN rfl) rfl ?_
  refine bplain (pc' := 3) rfl dX3_isGathered_1 rfl (ihN rfl) rfl ?_
  refine bplain (pc' := 4) rfl dX3_isGathered_3 rfl (ihN rfl) rfl ?_
  refine bplain (pc' := 6) rfl dX3_isGathered_4 rfl (ihN rfl) rfl ?_
  refine bplain (pc' := 7) rfl dX3_isGathered_6 rfl (ihN rfl) rfl ?_
  refine bplain (pc' := 9) rfl dX3_isGathered_7 rfl (ihN rfl) rfl ?_
  exact bnop0 rfl (by decide)
theorem bf_X3_isGathered_9 : BOKt mt tX3_isGathered 277 9 b_X3_isGathered_9 := by
  refine bnop1 ?_
  refine bplain (pc' := 11) rfl dX3_isGathered_9 rfl (ihN rfl) rfl ?_
  refine bplain (pc' := 12) rfl dX3_isGathered_11 rfl (ihN rfl) rfl ?_
  refine bthr (pc' := 15) rfl dX3_isGathered_12 rfl (lkf0 q2604 lf_334) (trivial) (ihN rfl) rfl ?_
  refine bjmp (tg := 90) (pc' := 18) rfl (by decide) (by decide) rfl dX3_isGathered_15 rfl (ihN rfl) rfl ?_
  refine bplain (pc' := 19) rfl dX3_isGathered_18 rfl (ihN rfl) rfl ?_
  refine bplain (pc' := 21) rfl dX3_isGathered_19 rfl (ihN rfl) rfl ?_
  refine bplain (pc' := 22) rfl dX3_isGathered_21 rfl (ihN rfl) rfl ?_
  refine bcall (pc' := 25) rfl dX3_isGathered_22 rfl (trivial) (lcv (n := 2) rfl (pvc (lfv mt_X3_isAbout ⟨by decide, by decide⟩ mok_X3_isAbout ⟨by decide, by decide⟩ ⟨q3027, ln_339, Or.inl ⟨q3025, Or.inl qs104⟩⟩) (trivial)) (Or.inl (by decide))) (ihN rfl) rfl ?_
  refine bjmp (tg := 84) (pc' := 28) rfl (by decide) (by decide) rfl dX3_isGathered_25 rfl (ihN rfl) rfl ?_
  refine bplain (pc' := 29) rfl dX3_isGathered_28 rfl (ihN rfl) rfl ?_
  refine bplain (pc' := 31) rfl dX3_isGathered_29 rfl (ihN rfl) rfl ?_
  refine bplain (pc' := 32) rfl dX3_isGathered_31 rfl (ihN rfl) rfl ?_
  refine bplain (pc' := 33) rfl dX3_isGathered_32 rfl (ihN rfl) rfl ?_
  refine bcall (pc' := 36) rfl dX3_isGathered_33 rfl (trivial) (lcv (n := 3) rfl (pvc (lfv mt_X3_familyAs ⟨by decide, by decide⟩ mok_X3_familyAs ⟨by decide, by decide⟩ ⟨q2850, ln_255, Or.inl ⟨q2848, Or.inl qs71⟩⟩) (trivial)) (Or.inl (by decide))) (ihN rfl) rfl ?_
  refine bplain (pc' := 38) rfl dX3_isGathered_36 rfl (ihN rfl) rfl ?_
  refine bplain (pc' := 40) rfl dX3_isGathered_38 rfl (ihN rfl) rfl ?_
  refine bjmp (tg := 77) (pc' := 43) rfl (by decide) (by decide) rfl dX3_isGathered_40 rfl (ihN rfl) rfl ?_
  refine bplain (pc' := 44) rfl dX3_isGathered_43 rfl (ihN rfl) rfl ?_
  refine bthr (pc' := 47) rfl dX3_isGathered_44 rfl (lkf0 q2610 lf_165) (trivial) (ihN rfl) rfl ?_
  refine bplain (pc' := 48) rfl dX3_isGathered_47 rfl (ihN rfl) rfl ?_
  refine bplain (pc' := 50) rfl dX3_isGathered_48 rfl (ihN rfl) rfl ?_
  refine bplain (pc' := 51) rfl dX3_isGathered_50 rfl (ihN rfl) rfl ?_
  refine bplain (pc' := 52) rfl dX3_isGathered_51 rfl (ihN rfl) rfl ?_
  refine bplain (pc' := 53) rfl dX3_isGathered_52 rfl (ihN rfl) rfl ?_
  refine bjmp (tg := 77) (pc' := 56) rfl (by decide) (by decide) rfl dX3_isGathered_53 rfl (ihN rfl) rfl ?_
  refine bplain (pc' := 58) rfl dX3_isGathered_56 rfl (ihN rfl) rfl ?_
  refine bjmp (tg := 77) (pc' := 61) rfl (by decide) (by decide) rfl dX3_isGathered_58 rfl (ihN rfl) rfl ?_
  refine bplain (pc' := 63) rfl dX3_isGathered_61 rfl (ihN rfl) rfl ?_
  refine bjmp (tg := 73) (pc' := 66) rfl (by decide) (by decide) rfl dX3_isGathered_63 rfl (ihN rfl) rfl ?_
  refine bplain (pc' := 68) rfl dX3_isGathered_66 rfl (ihN rfl) rfl ?_
  refine bplain (pc' := 70) rfl dX3_isGathered_68 rfl (ihN rfl) rfl ?_
  refine bjmp (tg := 77) (pc' := 73) rfl (by decide) (by decide) rfl dX3_isGathered_70 rfl (ihN rfl) rfl ?_
  exact bnop0 rfl (by decide)
theorem bf_X3_isGathered_73 : BOKt mt tX3_isGathered 277 73 b_X3_isGathered_73 := by
  refine bnop1 ?_
  refine bplain (pc' := 74) rfl dX3_isGathered_73 rfl (ihN rfl) rfl ?_
  refine bjmp (tg := 78) (pc' := 77) rfl (by decide) (by decide) rfl dX3_isGathered_74 rfl (ihN rfl) rfl ?_
  exact trivial
theorem bf_X3_isGathered_77 : BOKt mt tX3_isGathered 277 77 b_X3_isGathered_77 := by
  refine bnop1 ?_
  refine bplain (pc' := 78) rfl dX3_isGathered_77 rfl (ihN rfl) rfl ?_
  exact bnop0 rfl (by decide)
theorem bf_X3_isGathered_78 : BOKt mt tX3_isGathered 277 78 b_X3_isGathered_78 := by
  refine bnop1 ?_
  refine bplain (pc' := 80) rfl dX3_isGathered_78 rfl (ihN rfl) rfl ?_
  refine bplain (pc' := 82) rfl dX3_isGathered_80 rfl (ihN rfl) rfl ?_
  refine bplain (pc' := 84) rfl dX3_isGathered_82 rfl (ihN rfl) rfl ?_
  exact bnop0 rfl (by decide)
theorem bf_X3_isGathered_84 : BOKt mt tX3_isGathered 277 84 b_X3_isGathered_84 := by
  refine bnop1 ?_
  refine bplain (pc' := 87) rfl dX3_isGathered_84 rfl (ihN rfl) rfl ?_
  refine bjmp (tg := 9) (pc' := 90) rfl (by decide) (by decide) rfl dX3_isGathered_87 rfl (ihN rfl) rfl ?_
  exact trivial
theorem bf_X3_isGathered_90 : BOKt mt tX3_isGathered 277 90 b_X3_isGathered_90 := by
  refine bplain (pc' := 92) rfl dX3_isGathered_90 rfl (ihN rfl) rfl ?_
  refine bjmp (tg := 104) (pc' := 95) rfl (by decide) (by decide) rfl dX3_isGathered_92 rfl (ihN rfl) rfl ?_
  refine bplain (pc' := 97) rfl dX3_isGathered_95 rfl (ihN rfl) rfl ?_
  refine bjmp (tg := 104) (pc' := 100) rfl (by decide) (by decide) rfl dX3_isGathered_97 rfl (ihN rfl) rfl ?_
  refine bplain (pc' := 101) rfl dX3_isGathered_100 rfl (ihN rfl) rfl ?_
  refine bjmp (tg := 105) (pc' := 104) rfl (by decide) (by decide) rfl dX3_isGathered_101 rfl (ihN rfl) rfl ?_
  exact trivial
theorem bf_X3_isGathered_104 : BOKt mt tX3_isGathered 277 104 b_X3_isGathered_104 := by
  refine bnop1 ?_
  refine bplain (pc' := 105) rfl dX3_isGathered_104 rfl (ihN rfl) rfl ?_
  exact bnop0 rfl (by decide)
theorem bf_X3_isGathered_105 : BOKt mt tX3_isGathered 277 105 b_X3_isGathered_105 := by
  refine bnop1 ?_
  refine bret (pc' := 106) rfl dX3_isGathered_105 rfl (Or.inr ⟨rfl, rfl⟩) (ihN rfl) rfl ?_
  exact trivial
theorem tf_X3_isGathered : ∀ x ∈ tb_X3_isGathered, BOK mt 277 x.1 x.2 := tb_c mt_X3_isGathered bf_X3_isGathered_0 (tb_c mt_X3_isGathered bf_X3_isGathered_9 (tb_c mt_X3_isGathered bf_X3_isGathered_73 (tb_c mt_X3_isGathered bf_X3_isGathered_77 (tb_c mt_X3_isGathered bf_X3_isGathered_78 (tb_c mt_X3_isGathered bf_X3_isGathered_84 (tb_c mt_X3_isGathered bf_X3_isGathered_90 (tb_c mt_X3_isGathered bf_X3_isGathered_104 (tb_c mt_X3_isGathered bf_X3_isGathered_105 (tb_n)))))))))
theorem bf_X3_isCopied_0 : BOKt mt tX3_isCopied 278 0 b_X3_isCopied_0 := by
  refine bplain (pc' := 1) rfl dX3_isCopied_0 rfl (ihN rfl) rfl ?_
  refine bplain (pc' := 2) rfl dX3_isCopied_1 rfl (ihN rfl) rfl ?_
  refine bplain (pc' := 3) rfl dX3_isCopied_2 rfl (ihN rfl) rfl ?_
  refine bplain (pc' := 4) rfl dX3_isCopied_3 rfl (ihN rfl) rfl ?_
  refine bplain (pc' := 5) rfl dX3_isCopied_4 rfl (ihN rfl) rfl ?_
  refine bplain (pc' := 7) rfl dX3_isCopied_5 rfl (ihN rfl) rfl ?_
  exact bnop0 rfl (by decide)
theorem bf_X3_isCopied_7 : BOKt mt tX3_isCopied 278 7 b_X3_isCopied_7 := by
  refine bplain (pc' := 9) rfl dX3_isCopied_7 rfl (ihN rfl) rfl ?_
  refine bplain (pc' := 10) rfl dX3_isCopied_9 rfl (ihN rfl) rfl ?_
  refine bthr (pc' := 13) rfl dX3_isCopied_10 rfl (lkf0 q2603 lf_274) (trivial) (ihN rfl) rfl ?_
  refine bjmp (tg := 56) (pc' := 16) rfl (by decide) (by decide) rfl dX3_isCopied_13 rfl (ihN rfl) rfl ?_
  refine bplain (pc' := 17) rfl dX3_isCopied_16 rfl (ihN rfl) rfl ?_
  refine bjmp (tg := 37) (pc' := 20) rfl (by decide) (by decide) rfl dX3_isCopied_17 rfl (ihN rfl) rfl ?_
  refine bplain (pc' := 21) rfl dX3_isCopied_20 rfl (ihN rfl) rfl ?_
  refine bplain (pc' := 22) rfl dX3_isCopied_21 rfl (ihN rfl) rfl ?_
  refine bplain (pc' := 23) rfl dX3_isCopied_22 rfl (ihN rfl) rfl ?_
  refine bplain (pc' := 25) rfl dX3_isCopied_23 rfl (ihN rfl) rfl ?_
  refine bcall (pc' := 28) rfl dX3_isCopied_25 rfl (trivial) (lcv (n := 3) rfl (pvc (lfv mt_X3_bitsOfTurn ⟨by decide, by decide⟩ mok_X3_bitsOfTurn ⟨by decide, by decide⟩ ⟨q2973, ln_255, Or.inl ⟨q2971, Or.inl qs95⟩⟩) (trivial)) (Or.inl (by decide))) (ihN rfl) rfl ?_
  refine bplain (pc' := 29) rfl dX3_isCopied_28 rfl (ihN rfl) rfl ?_
  refine bplain (pc' := 30) rfl dX3_isCopied_29 rfl (ihN rfl) rfl ?_
  refine bjmp (tg := 37) (pc' := 33) rfl (by decide) (by decide) rfl dX3_isCopied_30 rfl (ihN rfl) rfl ?_
  refine bplain (pc' := 34) rfl dX3_isCopied_33 rfl (ihN rfl) rfl ?_
  refine bjmp (tg := 38) (pc' := 37) rfl (by decide) (by decide) rfl dX3_isCopied_34 rfl (ihN rfl) rfl ?_
  exact trivial
theorem bf_X3_isCopied_37 : BOKt mt tX3_isCopied 278 37 b_X3_isCopied_37 := by
  refine bnop1 ?_
  refine bplain (pc' := 38) rfl dX3_isCopied_37 rfl (ihN rfl) rfl ?_
  exact bnop0 rfl (by decide)
theorem bf_X3_isCopied_38 : BOKt mt tX3_isCopied 278 38 b_X3_isCopied_38 := by
  refine bnop1 ?_
  refine bplain (pc' := 39) rfl dX3_isCopied_38 rfl (ihN rfl) rfl ?_
  refine bplain (pc' := 40) rfl dX3_isCopied_39 rfl (ihN rfl) rfl ?_
  refine bplain (pc' := 41) rfl dX3_isCopied_40 rfl (ihN rfl) rfl ?_
  refine bplain (pc' := 42) rfl dX3_isCopied_41 rfl (ihN rfl) rfl ?_
  refine bplain (pc' := 43) rfl dX3_isCopied_42 rfl (ihN rfl) rfl ?_
  refine bplain (pc' := 45) rfl dX3_isCopied_43 rfl (ihN rfl) rfl ?_
  refine bcall (pc' := 48) rfl dX3_isCopied_45 rfl (trivial) (lcv (n := 3) rfl (pvc (lfv mt_X3_bitsOfTurn ⟨by decide, by decide⟩ mok_X3_bitsOfTurn ⟨by decide, by decide⟩ ⟨q2973, ln_255, Or.inl ⟨q2971, Or.inl qs95⟩⟩) (trivial)) (Or.inl (by decide))) (ihN rfl) rfl ?_
  refine bplain (pc' := 49) rfl dX3_isCopied_48 rfl (ihN rfl) rfl ?_
  refine bplain (pc' := 50) rfl dX3_isCopied_49 rfl (ihN rfl) rfl ?_
  refine bplain (pc' := 53) rfl dX3_isCopied_50 rfl (ihN rfl) rfl ?_
  refine bjmp (tg := 7) (pc' := 56) rfl (by decide) (by decide) rfl dX3_isCopied_53 rfl (ihN rfl) rfl ?_
  exact trivial
theorem bf_X3_isCopied_56 : BOKt mt tX3_isCopied 278 56 b_X3_isCopied_56 := by
  refine bplain (pc' := 57) rfl dX3_isCopied_56 rfl (ihN rfl) rfl ?_
  refine bret (pc' := 58) rfl dX3_isCopied_57 rfl (Or.inr ⟨rfl, rfl⟩) (ihN rfl) rfl ?_
  exact trivial
theorem tf_X3_isCopied : ∀ x ∈ tb_X3_isCopied, BOK mt 278 x.1 x.2 := tb_c mt_X3_isCopied bf_X3_isCopied_0 (tb_c mt_X3_isCopied bf_X3_isCopied_7 (tb_c mt_X3_isCopied bf_X3_isCopied_37 (tb_c mt_X3_isCopied bf_X3_isCopied_38 (tb_c mt_X3_isCopied bf_X3_isCopied_56 (tb_n)))))
theorem bf_X3_verdictAs_0 : BOKt mt tX3_verdictAs 279 0 b_X3_verdictAs_0 := by
  refine bplain (pc' := 1) rfl dX3_verdictAs_0 rfl (ihN rfl) rfl ?_
  refine bcall (pc' := 4) rfl dX3_verdictAs_1 rfl (trivial) (lcv (n := 0) rfl (pvc (lfv mt_X3_findsSets ⟨by decide, by decide⟩ mok_X3_findsSets ⟨by decide, by decide⟩ ⟨q2953, ln_0, Or.inl ⟨q2951, Or.inl qs90⟩⟩) (trivial)) (Or.inl (by decide))) (ihN rfl) rfl ?_
  refine bplain (pc' := 5) rfl dX3_verdictAs_4 rfl (ihN rfl) rfl ?_
  refine bplain (pc' := 6) rfl dX3_verdictAs_5 rfl (ihN rfl) rfl ?_
  refine bcall (pc' := 9) rfl dX3_verdictAs_6 rfl (trivial) (lcv (n := 1) rfl (pvc (lfv mt_X3_isWritten ⟨by decide, by decide⟩ mok_X3_isWritten ⟨by decide, by decide⟩ ⟨q3015, ln_222, Or.inl ⟨q3013, Or.inl qs101⟩⟩) (trivial)) (Or.inl (by decide))) (ihN rfl) rfl ?_
  refine bjmp (tg := 16) (pc' := 12) rfl (by decide) (by decide) rfl dX3_verdictAs_9 rfl (ihN rfl) rfl ?_
  refine bplain (pc' := 13) rfl dX3_verdictAs_12 rfl (ihN rfl) rfl ?_
  refine bjmp (tg := 55) (pc' := 16) rfl (by decide) (by decide) rfl dX3_verdictAs_13 rfl (ihN rfl) rfl ?_
  exact trivial
theorem bf_X3_verdictAs_16 : BOKt mt tX3_verdictAs 279 16 b_X3_verdictAs_16 := by
  refine bplain (pc' := 17) rfl dX3_verdictAs_16 rfl (ihN rfl) rfl ?_
  refine bplain (pc' := 18) rfl dX3_verdictAs_17 rfl (ihN rfl) rfl ?_
  refine bcall (pc' := 21) rfl dX3_verdictAs_18 rfl (trivial) (lcv (n := 1) rfl (pvc (lfv mt_X3_isShared ⟨by decide, by decide⟩ mok_X3_isShared ⟨by decide, by decide⟩ ⟨q3019, ln_222, Or.inl ⟨q3017, Or.inl qs102⟩⟩) (trivial)) (Or.inl (by decide))) (ihN rfl) rfl ?_
  refine bjmp (tg := 28) (pc' := 24) rfl (by decide) (by decide) rfl dX3_verdictAs_21 rfl (ihN rfl) rfl ?_
  refine bplain (pc' := 25) rfl dX3_verdictAs_24 rfl (ihN rfl) rfl ?_
  refine bjmp (tg := 55) (pc' := 28) rfl (by decide) (by decide) rfl dX3_verdictAs_25 rfl (ihN rfl) rfl ?_
  exact trivial
theorem bf_X3_verdictAs_28 : BOKt mt tX3_verdictAs 279 28 b_X3_verdictAs_28 := by
  refine bplain (pc' := 29) rfl dX3_verdictAs_28 rfl (ihN rfl) rfl ?_
  refine bplain (pc' := 30) rfl dX3_verdictAs_29 rfl (ihN rfl) rfl ?_
  refine bplain (pc' := 31) rfl dX3_verdictAs_30 rfl (ihN rfl) rfl ?_
  refine bplain (pc' := 32) rfl dX3_verdictAs_31 rfl (ihN rfl) rfl ?_
  refine bcall (pc' := 35) rfl dX3_verdictAs_32 rfl (trivial) (lcv (n := 3) rfl (pvc (lfv mt_X3_isGathered ⟨by decide, by decide⟩ mok_X3_isGathered ⟨by decide, by decide⟩ ⟨q3023, ln_226, Or.inl ⟨q3021, Or.inl qs103⟩⟩) (trivial)) (Or.inl (by decide))) (ihN rfl) rfl ?_
  refine bjmp (tg := 42) (pc' := 38) rfl (by decide) (by decide) rfl dX3_verdictAs_35 rfl (ihN rfl) rfl ?_
  refine bplain (pc' := 39) rfl dX3_verdictAs_38 rfl (ihN rfl) rfl ?_
  refine bjmp (tg := 55) (pc' := 42) rfl (by decide) (by decide) rfl dX3_verdictAs_39 rfl (ihN rfl) rfl ?_
  exact trivial
theorem bf_X3_verdictAs_42 : BOKt mt tX3_verdictAs 279 42 b_X3_verdictAs_42 := by
  refine bplain (pc' := 43) rfl dX3_verdictAs_42 rfl (ihN rfl) rfl ?_
  refine bplain (pc' := 44) rfl dX3_verdictAs_43 rfl (ihN rfl) rfl ?_
  refine bcall (pc' := 47) rfl dX3_verdictAs_44 rfl (trivial) (lcv (n := 1) rfl (pvc (lfv mt_X3_isCopied ⟨by decide, by decide⟩ mok_X3_isCopied ⟨by decide, by decide⟩ ⟨q3031, ln_222, Or.inl ⟨q3029, Or.inl qs105⟩⟩) (trivial)) (Or.inl (by decide))) (ihN rfl) rfl ?_
  refine bjmp (tg := 54) (pc' := 50) rfl (by decide) (by decide) rfl dX3_verdictAs_47 rfl (ihN rfl) rfl ?_
  refine bplain (pc' := 51) rfl dX3_verdictAs_50 rfl (ihN rfl) rfl ?_
  refine bjmp (tg := 55) (pc' := 54) rfl (by decide) (by decide) rfl dX3_verdictAs_51 rfl (ihN rfl) rfl ?_
  exact trivial
theorem bf_X3_verdictAs_54 : BOKt mt tX3_verdictAs 279 54 b_X3_verdictAs_54 := by
  refine bplain (pc' := 55) rfl dX3_verdictAs_54 rfl (ihN rfl) rfl ?_
  exact bnop0 rfl (by decide)
theorem bf_X3_verdictAs_55 : BOKt mt tX3_verdictAs 279 55 b_X3_verdictAs_55 := by
  refine bnop1 ?_
  refine bret (pc' := 56) rfl dX3_verdictAs_55 rfl (Or.inl ⟨rfl, rfl⟩) (ihN rfl) rfl ?_
  exact trivial
theorem tf_X3_verdictAs : ∀ x ∈ tb_X3_verdictAs, BOK mt 279 x.1 x.2 := tb_c mt_X3_verdictAs bf_X3_verdictAs_0 (tb_c mt_X3_verdictAs bf_X3_verdictAs_16 (tb_c mt_X3_verdictAs bf_X3_verdictAs_28 (tb_c mt_X3_verdictAs bf_X3_verdictAs_42 (tb_c mt_X3_verdictAs bf_X3_verdictAs_54 (tb_c mt_X3_verdictAs bf_X3_verdictAs_55 (tb_n))))))
theorem bf_X3_verdictOf_0 : BOKt mt tX3_verdictOf 280 0 b_X3_verdictOf_0 := by
  refine bplain (pc' := 1) rfl dX3_verdictOf_0 rfl (ihN rfl) rfl ?_
  refine bplain (pc' := 2) rfl dX3_verdictOf_1 rfl (ihN rfl) rfl ?_
  refine bplain (pc' := 3) rfl dX3_verdictOf_2 rfl (ihN rfl) rfl ?_
  refine bplain (pc' := 4) rfl dX3_verdictOf_3 rfl (ihN rfl) rfl ?_
  refine bcall (pc' := 7) rfl dX3_verdictOf_4 rfl (trivial) (lcv (n := 3) rfl (pvc (lfv mt_X3_verdictAs ⟨by decide, by decide⟩ mok_X3_verdictAs ⟨by decide, by decide⟩ ⟨q3011, ln_255, Or.inl ⟨q3009, Or.inl qs100⟩⟩) (trivial)) (Or.inl (by decide))) (ihN rfl) rfl ?_
  refine bret (pc' := 8) rfl dX3_verdictOf_7 rfl (Or.inl ⟨rfl, rfl⟩) (ihN rfl) rfl ?_
  exact trivial
theorem tf_X3_verdictOf : ∀ x ∈ tb_X3_verdictOf, BOK mt 280 x.1 x.2 := tb_c mt_X3_verdictOf bf_X3_verdictOf_0 (tb_n)
