/-! BLOCKS' FACTS 1 (by gen/bok.py) -/
set_option maxRecDepth 100000
theorem bf_X3_copy_0 : BOKt mt tX3_copy 71 0 b_X3_copy_0 := by
  refine bplain (pc' := 1) rfl dX3_copy_0 rfl (ihN rfl) rfl ?_
  refine bcall (pc' := 4) rfl dX3_copy_1 rfl (trivial) (lcs (l := q2744) mt_X3_isRow ⟨by decide, by decide⟩ mok_X3_isRow rfl ln_222 (Or.inl q2743)) (ihN rfl) rfl ?_
  refine bjmp (tg := 14) (pc' := 7) rfl (by decide) (by decide) rfl dX3_copy_4 rfl (ihN rfl) rfl ?_
  refine bplain (pc' := 8) rfl dX3_copy_7 rfl (ihN rfl) rfl ?_
  refine bcall (pc' := 11) rfl dX3_copy_8 rfl (trivial) (lcs (l := q2744) mt_X3_isRow ⟨by decide, by decide⟩ mok_X3_isRow rfl ln_222 (Or.inl q2743)) (ihN rfl) rfl ?_
  refine bjmp (tg := 17) (pc' := 14) rfl (by decide) (by decide) rfl dX3_copy_11 rfl (ihN rfl) rfl ?_
  exact bnop0 rfl (by decide)
theorem bf_X3_copy_14 : BOKt mt tX3_copy 71 14 b_X3_copy_14 := by
  refine bnop1 ?_
  refine bplain (pc' := 16) rfl dX3_copy_14 rfl (ihN rfl) rfl ?_
  refine bret (pc' := 17) rfl dX3_copy_16 rfl (Or.inl ⟨rfl, rfl⟩) (ihN rfl) rfl ?_
  exact trivial
theorem bf_X3_copy_17 : BOKt mt tX3_copy 71 17 b_X3_copy_17 := by
  refine bplain (pc' := 18) rfl dX3_copy_17 rfl (ihN rfl) rfl ?_
  refine bthr (pc' := 21) rfl dX3_copy_18 rfl (lkf0 q2597 lf_145) (trivial) (ihN rfl) rfl ?_
  refine bplain (pc' := 22) rfl dX3_copy_21 rfl (ihN rfl) rfl ?_
  refine bplain (pc' := 23) rfl dX3_copy_22 rfl (ihN rfl) rfl ?_
  refine bplain (pc' := 24) rfl dX3_copy_23 rfl (ihN rfl) rfl ?_
  refine bjmp (tg := 37) (pc' := 27) rfl (by decide) (by decide) rfl dX3_copy_24 rfl (ihN rfl) rfl ?_
  refine bplain (pc' := 28) rfl dX3_copy_27 rfl (ihN rfl) rfl ?_
  refine bthr (pc' := 31) rfl dX3_copy_28 rfl (lkf0 q2597 lf_145) (trivial) (ihN rfl) rfl ?_
  refine bplain (pc' := 32) rfl dX3_copy_31 rfl (ihN rfl) rfl ?_
  refine bplain (pc' := 33) rfl dX3_copy_32 rfl (ihN rfl) rfl ?_
  refine bplain (pc' := 34) rfl dX3_copy_33 rfl (ihN rfl) rfl ?_
  refine bjmp (tg := 43) (pc' := 37) rfl (by decide) (by decide) rfl dX3_copy_34 rfl (ihN rfl) rfl ?_
  exact bnop0 rfl (by decide)
theorem bf_X3_copy_37 : BOKt mt tX3_copy 71 37 b_X3_copy_37 := by
  refine bnop1 ?_
  refine bplain (pc' := 38) rfl dX3_copy_37 rfl (ihN rfl) rfl ?_
  refine bplain (pc' := 39) rfl dX3_copy_38 rfl (ihN rfl) rfl ?_
  refine bcall (pc' := 42) rfl dX3_copy_39 rfl (trivial) (lcv (n := 1) rfl (pvc (lfv mt_X3_meets ⟨by decide, by decide⟩ mok_X3_meets ⟨by decide, by decide⟩ ⟨q2751, ln_225, Or.inl ⟨q2749, Or.inl qs63⟩⟩) (trivial)) (Or.inl (by decide))) (ihN rfl) rfl ?_
  refine bret (pc' := 43) rfl dX3_copy_42 rfl (Or.inl ⟨rfl, rfl⟩) (ihN rfl) rfl ?_
  exact trivial
theorem bf_X3_copy_43 : BOKt mt tX3_copy 71 43 b_X3_copy_43 := by
  refine bplain (pc' := 44) rfl dX3_copy_43 rfl (ihN rfl) rfl ?_
  refine bthr (pc' := 47) rfl dX3_copy_44 rfl (lkf0 q2597 lf_145) (trivial) (ihN rfl) rfl ?_
  refine bplain (pc' := 48) rfl dX3_copy_47 rfl (ihN rfl) rfl ?_
  refine bplain (pc' := 49) rfl dX3_copy_48 rfl (ihN rfl) rfl ?_
  refine bplain (pc' := 50) rfl dX3_copy_49 rfl (ihN rfl) rfl ?_
  refine bthr (pc' := 53) rfl dX3_copy_50 rfl (lkf0 q2597 lf_145) (trivial) (ihN rfl) rfl ?_
  refine bplain (pc' := 54) rfl dX3_copy_53 rfl (ihN rfl) rfl ?_
  refine bplain (pc' := 55) rfl dX3_copy_54 rfl (ihN rfl) rfl ?_
  refine bjmp (tg := 64) (pc' := 58) rfl (by decide) (by decide) rfl dX3_copy_55 rfl (ihN rfl) rfl ?_
  refine bplain (pc' := 59) rfl dX3_copy_58 rfl (ihN rfl) rfl ?_
  refine bplain (pc' := 60) rfl dX3_copy_59 rfl (ihN rfl) rfl ?_
  refine bcall (pc' := 63) rfl dX3_copy_60 rfl (trivial) (lcv (n := 1) rfl (pvc (lfv mt_X3_meets ⟨by decide, by decide⟩ mok_X3_meets ⟨by decide, by decide⟩ ⟨q2751, ln_225, Or.inl ⟨q2749, Or.inl qs63⟩⟩) (trivial)) (Or.inl (by decide))) (ihN rfl) rfl ?_
  refine bret (pc' := 64) rfl dX3_copy_63 rfl (Or.inl ⟨rfl, rfl⟩) (ihN rfl) rfl ?_
  exact trivial
theorem bf_X3_copy_64 : BOKt mt tX3_copy 71 64 b_X3_copy_64 := by
  refine bplain (pc' := 65) rfl dX3_copy_64 rfl (ihN rfl) rfl ?_
  refine bjmp (tg := 113) (pc' := 68) rfl (by decide) (by decide) rfl dX3_copy_65 rfl (ihN rfl) rfl ?_
  refine bplain (pc' := 70) rfl dX3_copy_68 rfl (ihN rfl) rfl ?_
  refine bjmp (tg := 113) (pc' := 73) rfl (by decide) (by decide) rfl dX3_copy_70 rfl (ihN rfl) rfl ?_
  refine bplain (pc' := 75) rfl dX3_copy_73 rfl (ihN rfl) rfl ?_
  refine bjmp (tg := 113) (pc' := 78) rfl (by decide) (by decide) rfl dX3_copy_75 rfl (ihN rfl) rfl ?_
  refine bplain (pc' := 79) rfl dX3_copy_78 rfl (ihN rfl) rfl ?_
  refine bplain (pc' := 80) rfl dX3_copy_79 rfl (ihN rfl) rfl ?_
  refine bplain (pc' := 82) rfl dX3_copy_80 rfl (ihN rfl) rfl ?_
  refine bplain (pc' := 83) rfl dX3_copy_82 rfl (ihN rfl) rfl ?_
  refine bplain (pc' := 84) rfl dX3_copy_83 rfl (ihN rfl) rfl ?_
  refine bplain (pc' := 85) rfl dX3_copy_84 rfl (ihN rfl) rfl ?_
  refine bthr (pc' := 88) rfl dX3_copy_85 rfl (lkf0 q2598 lf_147) (trivial) (ihN rfl) rfl ?_
  refine bplain (pc' := 89) rfl dX3_copy_88 rfl (ihN rfl) rfl ?_
  refine bplain (pc' := 90) rfl dX3_copy_89 rfl (ihN rfl) rfl ?_
  refine bplain (pc' := 91) rfl dX3_copy_90 rfl (ihN rfl) rfl ?_
  refine bplain (pc' := 92) rfl dX3_copy_91 rfl (ihN rfl) rfl ?_
  refine bjmp (tg := 113) (pc' := 95) rfl (by decide) (by decide) rfl dX3_copy_92 rfl (ihN rfl) rfl ?_
  refine bplain (pc' := 97) rfl dX3_copy_95 rfl (ihN rfl) rfl ?_
  refine bplain (pc' := 98) rfl dX3_copy_97 rfl (ihN rfl) rfl ?_
  refine bplain (pc' := 100) rfl dX3_copy_98 rfl (ihN rfl) rfl ?_
  refine bplain (pc' := 101) rfl dX3_copy_100 rfl (ihN rfl) rfl ?_
  refine bplain (pc' := 102) rfl dX3_copy_101 rfl (ihN rfl) rfl ?_
  refine bplain (pc' := 103) rfl dX3_copy_102 rfl (ihN rfl) rfl ?_
  refine bthr (pc' := 106) rfl dX3_copy_103 rfl (lkf0 q2598 lf_147) (trivial) (ihN rfl) rfl ?_
  refine bplain (pc' := 107) rfl dX3_copy_106 rfl (ihN rfl) rfl ?_
  refine bplain (pc' := 108) rfl dX3_copy_107 rfl (ihN rfl) rfl ?_
  refine bplain (pc' := 109) rfl dX3_copy_108 rfl (ihN rfl) rfl ?_
  refine bplain (pc' := 110) rfl dX3_copy_109 rfl (ihN rfl) rfl ?_
  refine bjmp (tg := 119) (pc' := 113) rfl (by decide) (by decide) rfl dX3_copy_110 rfl (ihN rfl) rfl ?_
  exact bnop0 rfl (by decide)
theorem bf_X3_copy_113 : BOKt mt tX3_copy 71 113 b_X3_copy_113 := by
  refine bnop1 ?_
  refine bplain (pc' := 114) rfl dX3_copy_113 rfl (ihN rfl) rfl ?_
  refine bplain (pc' := 115) rfl dX3_copy_114 rfl (ihN rfl) rfl ?_
  refine bcall (pc' := 118) rfl dX3_copy_115 rfl (trivial) (lcv (n := 1) rfl (pvc (lfv mt_X3_meets ⟨by decide, by decide⟩ mok_X3_meets ⟨by decide, by decide⟩ ⟨q2751, ln_225, Or.inl ⟨q2749, Or.inl qs63⟩⟩) (trivial)) (Or.inl (by decide))) (ihN rfl) rfl ?_
  refine bret (pc' := 119) rfl dX3_copy_118 rfl (Or.inl ⟨rfl, rfl⟩) (ihN rfl) rfl ?_
  exact trivial
theorem bf_X3_copy_119 : BOKt mt tX3_copy 71 119 b_X3_copy_119 := by
  refine bplain (pc' := 120) rfl dX3_copy_119 rfl (ihN rfl) rfl ?_
  refine bplain (pc' := 122) rfl dX3_copy_120 rfl (ihN rfl) rfl ?_
  exact bnop0 rfl (by decide)
theorem bf_X3_copy_122 : BOKt mt tX3_copy 71 122 b_X3_copy_122 := by
  refine bplain (pc' := 124) rfl dX3_copy_122 rfl (ihN rfl) rfl ?_
  refine bplain (pc' := 126) rfl dX3_copy_124 rfl (ihN rfl) rfl ?_
  refine bjmp (tg := 156) (pc' := 129) rfl (by decide) (by decide) rfl dX3_copy_126 rfl (ihN rfl) rfl ?_
  refine bplain (pc' := 130) rfl dX3_copy_129 rfl (ihN rfl) rfl ?_
  refine bthr (pc' := 133) rfl dX3_copy_130 rfl (lkf0 q2602 lf_153) (trivial) (ihN rfl) rfl ?_
  refine bplain (pc' := 135) rfl dX3_copy_133 rfl (ihN rfl) rfl ?_
  refine bplain (pc' := 136) rfl dX3_copy_135 rfl (ihN rfl) rfl ?_
  refine bthr (pc' := 139) rfl dX3_copy_136 rfl (lkf0 q2599 lf_149) (trivial) (ihN rfl) rfl ?_
  refine bplain (pc' := 141) rfl dX3_copy_139 rfl (ihN rfl) rfl ?_
  refine bplain (pc' := 142) rfl dX3_copy_141 rfl (ihN rfl) rfl ?_
  refine bplain (pc' := 143) rfl dX3_copy_142 rfl (ihN rfl) rfl ?_
  refine bplain (pc' := 144) rfl dX3_copy_143 rfl (ihN rfl) rfl ?_
  refine bplain (pc' := 145) rfl dX3_copy_144 rfl (ihN rfl) rfl ?_
  refine bplain (pc' := 147) rfl dX3_copy_145 rfl (ihN rfl) rfl ?_
  refine bplain (pc' := 148) rfl dX3_copy_147 rfl (ihN rfl) rfl ?_
  refine bplain (pc' := 149) rfl dX3_copy_148 rfl (ihN rfl) rfl ?_
  refine bplain (pc' := 150) rfl dX3_copy_149 rfl (ihN rfl) rfl ?_
  refine bplain (pc' := 153) rfl dX3_copy_150 rfl (ihN rfl) rfl ?_
  refine bjmp (tg := 122) (pc' := 156) rfl (by decide) (by decide) rfl dX3_copy_153 rfl (ihN rfl) rfl ?_
  exact trivial
theorem bf_X3_copy_156 : BOKt mt tX3_copy 71 156 b_X3_copy_156 := by
  refine bplain (pc' := 157) rfl dX3_copy_156 rfl (ihN rfl) rfl ?_
  refine bplain (pc' := 159) rfl dX3_copy_157 rfl (ihN rfl) rfl ?_
  exact bnop0 rfl (by decide)
theorem bf_X3_copy_159 : BOKt mt tX3_copy 71 159 b_X3_copy_159 := by
  refine bnop1 ?_
  refine bplain (pc' := 161) rfl dX3_copy_159 rfl (ihN rfl) rfl ?_
  refine bplain (pc' := 163) rfl dX3_copy_161 rfl (ihN rfl) rfl ?_
  refine bjmp (tg := 194) (pc' := 166) rfl (by decide) (by decide) rfl dX3_copy_163 rfl (ihN rfl) rfl ?_
  refine bplain (pc' := 167) rfl dX3_copy_166 rfl (ihN rfl) rfl ?_
  refine bthr (pc' := 170) rfl dX3_copy_167 rfl (lkf0 q2599 lf_149) (trivial) (ihN rfl) rfl ?_
  refine bplain (pc' := 172) rfl dX3_copy_170 rfl (ihN rfl) rfl ?_
  refine bplain (pc' := 173) rfl dX3_copy_172 rfl (ihN rfl) rfl ?_
  refine bplain (pc' := 174) rfl dX3_copy_173 rfl (ihN rfl) rfl ?_
  refine bplain (pc' := 176) rfl dX3_copy_174 rfl (ihN rfl) rfl ?_
  refine bplain (pc' := 177) rfl dX3_copy_176 rfl (ihN rfl) rfl ?_
  refine bplain (pc' := 179) rfl dX3_copy_177 rfl (ihN rfl) rfl ?_
  refine bplain (pc' := 180) rfl dX3_copy_179 rfl (ihN rfl) rfl ?_
  refine bplain (pc' := 181) rfl dX3_copy_180 rfl (ihN rfl) rfl ?_
  refine bthr (pc' := 184) rfl dX3_copy_181 rfl (lkf0 q2602 lf_153) (trivial) (ihN rfl) rfl ?_
  refine bplain (pc' := 186) rfl dX3_copy_184 rfl (ihN rfl) rfl ?_
  refine bplain (pc' := 187) rfl dX3_copy_186 rfl (ihN rfl) rfl ?_
  refine bplain (pc' := 188) rfl dX3_copy_187 rfl (ihN rfl) rfl ?_
  refine bplain (pc' := 191) rfl dX3_copy_188 rfl (ihN rfl) rfl ?_
  refine bjmp (tg := 159) (pc' := 194) rfl (by decide) (by decide) rfl dX3_copy_191 rfl (ihN rfl) rfl ?_
  exact trivial
theorem bf_X3_copy_194 : BOKt mt tX3_copy 71 194 b_X3_copy_194 := by
  refine bplain (pc' := 195) rfl dX3_copy_194 rfl (ihN rfl) rfl ?_
  refine bret (pc' := 196) rfl dX3_copy_195 rfl (Or.inl ⟨rfl, rfl⟩) (ihN rfl) rfl ?_
  exact trivial
theorem tf_X3_copy : ∀ x ∈ tb_X3_copy, BOK mt 71 x.1 x.2 := tb_c mt_X3_copy bf_X3_copy_0 (tb_c mt_X3_copy bf_X3_copy_14 (tb_c mt_X3_copy bf_X3_copy_17 (tb_c mt_X3_copy bf_X3_copy_37 (tb_c mt_X3_copy bf_X3_copy_43 (tb_c mt_X3_copy bf_X3_copy_64 (tb_c mt_X3_copy bf_X3_copy_113 (tb_c mt_X3_copy bf_X3_copy_119 (tb_c mt_X3_copy bf_X3_copy_122 (tb_c mt_X3_copy bf_X3_copy_156 (tb_c mt_X3_copy bf_X3_copy_159 (tb_c mt_X3_copy bf_X3_copy_194 (tb_n))))))))))))
theorem bf_J21_sub_0 : BOKt mt tJ21_sub 72 0 b_J21_sub_0 := by
  refine bplain (pc' := 1) rfl dJ21_sub_0 rfl (ihN rfl) rfl ?_
  refine bplain (pc' := 2) rfl dJ21_sub_1 rfl (ihN rfl) rfl ?_
  refine bplain (pc' := 3) rfl dJ21_sub_2 rfl (ihN rfl) rfl ?_
  refine bplain (pc' := 4) rfl dJ21_sub_3 rfl (ihN rfl) rfl ?_
  refine bplain (pc' := 5) rfl dJ21_sub_4 rfl (ihN rfl) rfl ?_
  refine bjmp (tg := 12) (pc' := 8) rfl (by decide) (by decide) rfl dJ21_sub_5 rfl (ihN rfl) rfl ?_
  refine bplain (pc' := 9) rfl dJ21_sub_8 rfl (ihN rfl) rfl ?_
  refine bplain (pc' := 10) rfl dJ21_sub_9 rfl (ihN rfl) rfl ?_
  refine bplain (pc' := 11) rfl dJ21_sub_10 rfl (ihN rfl) rfl ?_
  refine bplain (pc' := 12) rfl dJ21_sub_11 rfl (ihN rfl) rfl ?_
  exact bnop0 rfl (by decide)
theorem bf_J21_sub_12 : BOKt mt tJ21_sub 72 12 b_J21_sub_12 := by
  refine bnop1 ?_
  refine bplain (pc' := 13) rfl dJ21_sub_12 rfl (ihN rfl) rfl ?_
  refine bret (pc' := 14) rfl dJ21_sub_13 rfl (Or.inl ⟨rfl, rfl⟩) (ihN rfl) rfl ?_
  exact trivial
theorem tf_J21_sub : ∀ x ∈ tb_J21_sub, BOK mt 72 x.1 x.2 := tb_c mt_J21_sub bf_J21_sub_0 (tb_c mt_J21_sub bf_J21_sub_12 (tb_n))
theorem bf_J21_size_0 : BOKt mt tJ21_size 73 0 b_J21_size_0 := by
  refine bplain (pc' := 1) rfl dJ21_size_0 rfl (ihN rfl) rfl ?_
  refine bthr (pc' := 4) rfl dJ21_size_1 rfl (lkf0 q1066 lf_253) (trivial) (ihN rfl) rfl ?_
  refine bplain (pc' := 5) rfl dJ21_size_4 rfl (ihN rfl) rfl ?_
  refine bthr (pc' := 8) rfl dJ21_size_5 rfl (lkf0 q1065 lf_254) (trivial) (ihN rfl) rfl ?_
  refine bplain (pc' := 9) rfl dJ21_size_8 rfl (ihN rfl) rfl ?_
  refine bthr (pc' := 12) rfl dJ21_size_9 rfl (lkf0 q1062 lf_102) (trivial) (ihN rfl) rfl ?_
  refine bplain (pc' := 13) rfl dJ21_size_12 rfl (ihN rfl) rfl ?_
  refine bcall (pc' := 16) rfl dJ21_size_13 rfl (trivial) (lcs (l := q1398) mt_J21_sub ⟨by decide, by decide⟩ mok_J21_sub rfl ln_255 (Or.inl q1397)) (ihN rfl) rfl ?_
  refine bret (pc' := 17) rfl dJ21_size_16 rfl (Or.inl ⟨rfl, rfl⟩) (ihN rfl) rfl ?_
  exact trivial
theorem tf_J21_size : ∀ x ∈ tb_J21_size, BOK mt 73 x.1 x.2 := tb_c mt_J21_size bf_J21_size_0 (tb_n)
theorem bf_J21_elementAt_0 : BOKt mt tJ21_elementAt 74 0 b_J21_elementAt_0 := by
  refine bplain (pc' := 1) rfl dJ21_elementAt_0 rfl (ihN rfl) rfl ?_
  refine bplain (pc' := 2) rfl dJ21_elementAt_1 rfl (ihN rfl) rfl ?_
  refine bplain (pc' := 3) rfl dJ21_elementAt_2 rfl (ihN rfl) rfl ?_
  refine bret (pc' := 4) rfl dJ21_elementAt_3 rfl (⟨_, rfl, Or.inl ⟨_, rfl⟩⟩) (ihN rfl) rfl ?_
  exact trivial
theorem tf_J21_elementAt : ∀ x ∈ tb_J21_elementAt, BOK mt 74 x.1 x.2 := tb_c mt_J21_elementAt bf_J21_elementAt_0 (tb_n)
theorem bf_J21_inc_0 : BOKt mt tJ21_inc 75 0 b_J21_inc_0 := by
  refine bplain (pc' := 3) rfl dJ21_inc_0 rfl (ihN rfl) rfl ?_
  refine bplain (pc' := 4) rfl dJ21_inc_3 rfl (ihN rfl) rfl ?_
  refine bplain (pc' := 5) rfl dJ21_inc_4 rfl (ihN rfl) rfl ?_
  refine bjmp (tg := 10) (pc' := 8) rfl (by decide) (by decide) rfl dJ21_inc_5 rfl (ihN rfl) rfl ?_
  refine bplain (pc' := 9) rfl dJ21_inc_8 rfl (ihN rfl) rfl ?_
  refine bplain (pc' := 10) rfl dJ21_inc_9 rfl (ihN rfl) rfl ?_
  exact bnop0 rfl (by decide)
theorem bf_J21_inc_10 : BOKt mt tJ21_inc 75 10 b_J21_inc_10 := by
  refine bnop1 ?_
  refine bplain (pc' := 11) rfl dJ21_inc_10 rfl (ihN rfl) rfl ?_
  refine bret (pc' := 12) rfl dJ21_inc_11 rfl (Or.inl ⟨rfl, rfl⟩) (ihN rfl) rfl ?_
  exact trivial
theorem tf_J21_inc : ∀ x ∈ tb_J21_inc, BOK mt 75 x.1 x.2 := tb_c mt_J21_inc bf_J21_inc_0 (tb_c mt_J21_inc bf_J21_inc_10 (tb_n))
theorem bf_J21_pollFirst_0 : BOKt mt tJ21_pollFirst 76 0 b_J21_pollFirst_0 := by
  refine bplain (pc' := 1) rfl dJ21_pollFirst_0 rfl (ihN rfl) rfl ?_
  refine bthr (pc' := 4) rfl dJ21_pollFirst_1 rfl (lkf0 q1062 lf_102) (trivial) (ihN rfl) rfl ?_
  refine bplain (pc' := 5) rfl dJ21_pollFirst_4 rfl (ihN rfl) rfl ?_
  refine bplain (pc' := 6) rfl dJ21_pollFirst_5 rfl (ihN rfl) rfl ?_
  refine bplain (pc' := 7) rfl dJ21_pollFirst_6 rfl (ihN rfl) rfl ?_
  refine bthr (pc' := 10) rfl dJ21_pollFirst_7 rfl (lkf0 q1065 lf_254) (trivial) (ihN rfl) rfl ?_
  refine bplain (pc' := 11) rfl dJ21_pollFirst_10 rfl (ihN rfl) rfl ?_
  refine bplain (pc' := 12) rfl dJ21_pollFirst_11 rfl (ihN rfl) rfl ?_
  refine bcall (pc' := 15) rfl dJ21_pollFirst_12 rfl (trivial) (lcs (l := q1405) mt_J21_elementAt ⟨by decide, by decide⟩ mok_J21_elementAt rfl ln_256 (Or.inl q1404)) (ihN rfl) rfl ?_
  refine bplain (pc' := 16) rfl dJ21_pollFirst_15 rfl (ihN rfl) rfl ?_
  refine bplain (pc' := 17) rfl dJ21_pollFirst_16 rfl (ihN rfl) rfl ?_
  refine bjmp (tg := 34) (pc' := 20) rfl (by decide) (by decide) rfl dJ21_pollFirst_17 rfl (ihN rfl) rfl ?_
  refine bplain (pc' := 21) rfl dJ21_pollFirst_20 rfl (ihN rfl) rfl ?_
  refine bplain (pc' := 22) rfl dJ21_pollFirst_21 rfl (ihN rfl) rfl ?_
  refine bplain (pc' := 23) rfl dJ21_pollFirst_22 rfl (ihN rfl) rfl ?_
  refine bplain (pc' := 24) rfl dJ21_pollFirst_23 rfl (ihN rfl) rfl ?_
  refine bplain (pc' := 25) rfl dJ21_pollFirst_24 rfl (ihN rfl) rfl ?_
  refine bplain (pc' := 26) rfl dJ21_pollFirst_25 rfl (ihN rfl) rfl ?_
  refine bplain (pc' := 27) rfl dJ21_pollFirst_26 rfl (ihN rfl) rfl ?_
  refine bplain (pc' := 28) rfl dJ21_pollFirst_27 rfl (ihN rfl) rfl ?_
  refine bcall (pc' := 31) rfl dJ21_pollFirst_28 rfl (trivial) (lcs (l := q1408) mt_J21_inc ⟨by decide, by decide⟩ mok_J21_inc rfl ln_252 (Or.inl q1407)) (ihN rfl) rfl ?_
  refine bobj (pc' := 34) rfl dJ21_pollFirst_31 rfl (⟨lkf0 q1065 lf_254, lkp0 lp_257⟩) (ihN rfl) rfl ?_
  exact bnop0 rfl (by decide)
theorem bf_J21_pollFirst_34 : BOKt mt tJ21_pollFirst 76 34 b_J21_pollFirst_34 := by
  refine bnop1 ?_
  refine bplain (pc' := 35) rfl dJ21_pollFirst_34 rfl (ihN rfl) rfl ?_
  refine bret (pc' := 36) rfl dJ21_pollFirst_35 rfl (⟨_, rfl, Or.inl ⟨_, rfl⟩⟩) (ihN rfl) rfl ?_
  exact trivial
theorem tf_J21_pollFirst : ∀ x ∈ tb_J21_pollFirst, BOK mt 76 x.1 x.2 := tb_c mt_J21_pollFirst bf_J21_pollFirst_0 (tb_c mt_J21_pollFirst bf_J21_pollFirst_34 (tb_n))
theorem bf_X5_init_0 : BOKt mt tX5_init 77 0 b_X5_init_0 := by
  refine bplain (pc' := 1) rfl dX5_init_0 rfl (ihN rfl) rfl ?_
  refine bcall (pc' := 4) rfl dX5_init_1 rfl (trivial) (lco rfl ⟨q1415, q193, q194⟩) (ihN rfl) rfl ?_
  refine bplain (pc' := 5) rfl dX5_init_4 rfl (ihN rfl) rfl ?_
  refine bplain (pc' := 6) rfl dX5_init_5 rfl (ihN rfl) rfl ?_
  refine bobj (pc' := 9) rfl dX5_init_6 rfl (⟨lkf0 q1416 lf_258, lkp1 rfl lp_259⟩) (ihN rfl) rfl ?_
  refine bret (pc' := 10) rfl dX5_init_9 rfl (rfl) (ihN rfl) rfl ?_
  exact trivial
theorem tf_X5_init : ∀ x ∈ tb_X5_init, BOK mt 77 x.1 x.2 := tb_c mt_X5_init bf_X5_init_0 (tb_n)
theorem bf_J21_newCapacity_0 : BOKt mt tJ21_newCapacity 78 0 b_J21_newCapacity_0 := by
  refine bplain (pc' := 1) rfl dJ21_newCapacity_0 rfl (ihN rfl) rfl ?_
  refine bthr (pc' := 4) rfl dJ21_newCapacity_1 rfl (lkf0 q1062 lf_102) (trivial) (ihN rfl) rfl ?_
  refine bplain (pc' := 5) rfl dJ21_newCapacity_4 rfl (ihN rfl) rfl ?_
  refine bplain (pc' := 6) rfl dJ21_newCapacity_5 rfl (ihN rfl) rfl ?_
  refine bplain (pc' := 7) rfl dJ21_newCapacity_6 rfl (ihN rfl) rfl ?_
  refine bplain (pc' := 8) rfl dJ21_newCapacity_7 rfl (ihN rfl) rfl ?_
  refine bplain (pc' := 9) rfl dJ21_newCapacity_8 rfl (ihN rfl) rfl ?_
  refine bplain (pc' := 10) rfl dJ21_newCapacity_9 rfl (ihN rfl) rfl ?_
  refine bplain (pc' := 12) rfl dJ21_newCapacity_10 rfl (ihN rfl) rfl ?_
  refine bobj (pc' := 14) rfl dJ21_newCapacity_12 rfl (lkl0 lc_260 q1431) (ihN rfl) rfl ?_
  refine bplain (pc' := 15) rfl dJ21_newCapacity_14 rfl (ihN rfl) rfl ?_
  refine bjmp (tg := 36) (pc' := 18) rfl (by decide) (by decide) rfl dJ21_newCapacity_15 rfl (ihN rfl) rfl ?_
  refine bplain (pc' := 20) rfl dJ21_newCapacity_18 rfl (ihN rfl) rfl ?_
  refine bjmp (tg := 33) (pc' := 23) rfl (by decide) (by decide) rfl dJ21_newCapacity_20 rfl (ihN rfl) rfl ?_
  refine bthr (pc' := 26) rfl dJ21_newCapacity_23 rfl (trivial) (trivial) (ihN rfl) rfl ?_
  refine bplain (pc' := 27) rfl dJ21_newCapacity_26 rfl (ihN rfl) rfl ?_
  refine bobj (pc' := 29) rfl dJ21_newCapacity_27 rfl (trivial) (ihN rfl) rfl ?_
  refine bcall (pc' := 32) rfl dJ21_newCapacity_29 rfl (trivial) (trivial) (ihN rfl) rfl ?_
  refine bplain (pc' := 33) rfl dJ21_newCapacity_32 rfl (ihN rfl) rfl ?_
  exact trivial
theorem bf_J21_newCapacity_33 : BOKt mt tJ21_newCapacity 78 33 b_J21_newCapacity_33 := by
  refine bobj (pc' := 35) rfl dJ21_newCapacity_33 rfl (lkl0 lc_45 q1436) (ihN rfl) rfl ?_
  refine bret (pc' := 36) rfl dJ21_newCapacity_35 rfl (Or.inl ⟨rfl, rfl⟩) (ihN rfl) rfl ?_
  exact trivial
theorem bf_J21_newCapacity_36 : BOKt mt tJ21_newCapacity 78 36 b_J21_newCapacity_36 := by
  refine bplain (pc' := 37) rfl dJ21_newCapacity_36 rfl (ihN rfl) rfl ?_
  refine bplain (pc' := 38) rfl dJ21_newCapacity_37 rfl (ihN rfl) rfl ?_
  refine bjmp (tg := 44) (pc' := 41) rfl (by decide) (by decide) rfl dJ21_newCapacity_38 rfl (ihN rfl) rfl ?_
  refine bplain (pc' := 43) rfl dJ21_newCapacity_41 rfl (ihN rfl) rfl ?_
  refine bret (pc' := 44) rfl dJ21_newCapacity_43 rfl (Or.inl ⟨rfl, rfl⟩) (ihN rfl) rfl ?_
  exact trivial
theorem bf_J21_newCapacity_44 : BOKt mt tJ21_newCapacity 78 44 b_J21_newCapacity_44 := by
  refine bplain (pc' := 45) rfl dJ21_newCapacity_44 rfl (ihN rfl) rfl ?_
  refine bplain (pc' := 46) rfl dJ21_newCapacity_45 rfl (ihN rfl) rfl ?_
  refine bplain (pc' := 47) rfl dJ21_newCapacity_46 rfl (ihN rfl) rfl ?_
  refine bobj (pc' := 49) rfl dJ21_newCapacity_47 rfl (lkl0 lc_260 q1431) (ihN rfl) rfl ?_
  refine bplain (pc' := 50) rfl dJ21_newCapacity_49 rfl (ihN rfl) rfl ?_
  refine bjmp (tg := 59) (pc' := 53) rfl (by decide) (by decide) rfl dJ21_newCapacity_50 rfl (ihN rfl) rfl ?_
  refine bplain (pc' := 54) rfl dJ21_newCapacity_53 rfl (ihN rfl) rfl ?_
  refine bplain (pc' := 55) rfl dJ21_newCapacity_54 rfl (ihN rfl) rfl ?_
  refine bplain (pc' := 56) rfl dJ21_newCapacity_55 rfl (ihN rfl) rfl ?_
  refine bjmp (tg := 61) (pc' := 59) rfl (by decide) (by decide) rfl dJ21_newCapacity_56 rfl (ihN rfl) rfl ?_
  exact trivial
theorem bf_J21_newCapacity_59 : BOKt mt tJ21_newCapacity 78 59 b_J21_newCapacity_59 := by
  refine bobj (pc' := 61) rfl dJ21_newCapacity_59 rfl (lkl0 lc_260 q1431) (ihN rfl) rfl ?_
  exact bnop0 rfl (by decide)
theorem bf_J21_newCapacity_61 : BOKt mt tJ21_newCapacity 78 61 b_J21_newCapacity_61 := by
  refine bnop1 ?_
  refine bret (pc' := 62) rfl dJ21_newCapacity_61 rfl (Or.inl ⟨rfl, rfl⟩) (ihN rfl) rfl ?_
  exact trivial
theorem tf_J21_newCapacity : ∀ x ∈ tb_J21_newCapacity, BOK mt 78 x.1 x.2 := tb_c mt_J21_newCapacity bf_J21_newCapacity_0 (tb_c mt_J21_newCapacity bf_J21_newCapacity_33 (tb_c mt_J21_newCapacity bf_J21_newCapacity_36 (tb_c mt_J21_newCapacity bf_J21_newCapacity_44 (tb_c mt_J21_newCapacity bf_J21_newCapacity_59 (tb_c mt_J21_newCapacity bf_J21_newCapacity_61 (tb_n))))))
theorem bf_J8_min_0 : BOKt mt tJ8_min 79 0 b_J8_min_0 := by
  refine bplain (pc' := 1) rfl dJ8_min_0 rfl (ihN rfl) rfl ?_
  refine bplain (pc' := 2) rfl dJ8_min_1 rfl (ihN rfl) rfl ?_
  refine bjmp (tg := 9) (pc' := 5) rfl (by decide) (by decide) rfl dJ8_min_2 rfl (ihN rfl) rfl ?_
  refine bplain (pc' := 6) rfl dJ8_min_5 rfl (ihN rfl) rfl ?_
  refine bjmp (tg := 10) (pc' := 9) rfl (by decide) (by decide) rfl dJ8_min_6 rfl (ihN rfl) rfl ?_
  exact trivial
theorem bf_J8_min_9 : BOKt mt tJ8_min 79 9 b_J8_min_9 := by
  refine bplain (pc' := 10) rfl dJ8_min_9 rfl (ihN rfl) rfl ?_
  exact bnop0 rfl (by decide)
theorem bf_J8_min_10 : BOKt mt tJ8_min 79 10 b_J8_min_10 := by
  refine bnop1 ?_
  refine bret (pc' := 11) rfl dJ8_min_10 rfl (Or.inl ⟨rfl, rfl⟩) (ihN rfl) rfl ?_
  exact trivial
theorem tf_J8_min : ∀ x ∈ tb_J8_min, BOK mt 79 x.1 x.2 := tb_c mt_J8_min bf_J8_min_0 (tb_c mt_J8_min bf_J8_min_9 (tb_c mt_J8_min bf_J8_min_10 (tb_n)))
theorem bf_J30_copyOf_2_0 : BOKt mt tJ30_copyOf_2 80 0 b_J30_copyOf_2_0 := by
  refine bplain (pc' := 1) rfl dJ30_copyOf_2_0 rfl (ihN rfl) rfl ?_
  refine bobj (pc' := 3) rfl dJ30_copyOf_2_1 rfl (lklm (by decide) rfl q1444) (ihN rfl) rfl ?_
  refine bjmp (tg := 13) (pc' := 6) rfl (by decide) (by decide) rfl dJ30_copyOf_2_3 rfl (ihN rfl) rfl ?_
  refine bplain (pc' := 7) rfl dJ30_copyOf_2_6 rfl (ihN rfl) rfl ?_
  refine bobj (pc' := 10) rfl dJ30_copyOf_2_7 rfl (⟨"java/lang/Object", by decide, rfl, q1445, q1037⟩) (ihN rfl) rfl ?_
  refine bjmp (tg := 24) (pc' := 13) rfl (by decide) (by decide) rfl dJ30_copyOf_2_10 rfl (ihN rfl) rfl ?_
  exact trivial
theorem bf_J30_copyOf_2_13 : BOKt mt tJ30_copyOf_2 80 13 b_J30_copyOf_2_13 := by
  refine bplain (pc' := 14) rfl dJ30_copyOf_2_13 rfl (ihN rfl) rfl ?_
  refine bcall (pc' := 17) rfl dJ30_copyOf_2_14 rfl (trivial) (trivial) (ihN rfl) rfl ?_
  refine bplain (pc' := 18) rfl dJ30_copyOf_2_17 rfl (ihN rfl) rfl ?_
  refine bcall (pc' := 21) rfl dJ30_copyOf_2_18 rfl (trivial) (trivial) (ihN rfl) rfl ?_
  refine bthr (pc' := 24) rfl dJ30_copyOf_2_21 rfl (lkc (nm := "[Ljava/lang/Object;") q1444 lg_261 lb_262) (Or.inl rfl) (ihN rfl) rfl ?_
  exact bnop0 rfl (by decide)
theorem bf_J30_copyOf_2_24 : BOKt mt tJ30_copyOf_2 80 24 b_J30_copyOf_2_24 := by
  refine bnop1 ?_
  refine bplain (pc' := 25) rfl dJ30_copyOf_2_24 rfl (ihN rfl) rfl ?_
  refine bplain (pc' := 26) rfl dJ30_copyOf_2_25 rfl (ihN rfl) rfl ?_
  refine bplain (pc' := 27) rfl dJ30_copyOf_2_26 rfl (ihN rfl) rfl ?_
  refine bplain (pc' := 28) rfl dJ30_copyOf_2_27 rfl (ihN rfl) rfl ?_
  refine bplain (pc' := 29) rfl dJ30_copyOf_2_28 rfl (ihN rfl) rfl ?_
  refine bplain (pc' := 30) rfl dJ30_copyOf_2_29 rfl (ihN rfl) rfl ?_
  refine bplain (pc' := 31) rfl dJ30_copyOf_2_30 rfl (ihN rfl) rfl ?_
  refine bplain (pc' := 32) rfl dJ30_copyOf_2_31 rfl (ihN rfl) rfl ?_
  refine bcall (pc' := 35) rfl dJ30_copyOf_2_32 rfl (trivial) (lcs (l := q549) mt_J8_min ⟨by decide, by decide⟩ mok_J8_min rfl ln_252 (Or.inl q1446)) (ihN rfl) rfl ?_
  refine bcall (pc' := 38) rfl dJ30_copyOf_2_35 rfl (⟨q1447, q1380, q1379, q171⟩) (Or.inl rfl) (ihN rfl) rfl ?_
  refine bplain (pc' := 39) rfl dJ30_copyOf_2_38 rfl (ihN rfl) rfl ?_
  refine bret (pc' := 40) rfl dJ30_copyOf_2_39 rfl (⟨_, rfl, Or.inr ⟨_, rfl⟩⟩) (ihN rfl) rfl ?_
  exact trivial
theorem tf_J30_copyOf_2 : ∀ x ∈ tb_J30_copyOf_2, BOK mt 80 x.1 x.2 := tb_c mt_J30_copyOf_2 bf_J30_copyOf_2_0 (tb_c mt_J30_copyOf_2 bf_J30_copyOf_2_13 (tb_c mt_J30_copyOf_2 bf_J30_copyOf_2_24 (tb_n)))
theorem bf_J30_copyOf_0 : BOKt mt tJ30_copyOf 81 0 b_J30_copyOf_0 := by
  refine bplain (pc' := 1) rfl dJ30_copyOf_0 rfl (ihN rfl) rfl ?_
  refine bplain (pc' := 2) rfl dJ30_copyOf_1 rfl (ihN rfl) rfl ?_
  refine bplain (pc' := 3) rfl dJ30_copyOf_2 rfl (ihN rfl) rfl ?_
  refine bcall (pc' := 6) rfl dJ30_copyOf_3 rfl (⟨rfl, q1440, q3255, q3254, q485, q518⟩) (Or.inl ⟨rfl, by decide, fun q z h => by unfold ev_pair at h; split at h <;> cases h; decide⟩) (ihN rfl) rfl ?_
  refine bcall (pc' := 9) rfl dJ30_copyOf_6 rfl (trivial) (lcs (l := q1442) mt_J30_copyOf_2 ⟨by decide, by decide⟩ mok_J30_copyOf_2 rfl ln_263 (Or.inl q1441)) (ihN rfl) rfl ?_
  refine bret (pc' := 10) rfl dJ30_copyOf_9 rfl (⟨_, rfl, Or.inr ⟨_, rfl⟩⟩) (ihN rfl) rfl ?_
  exact trivial
theorem tf_J30_copyOf : ∀ x ∈ tb_J30_copyOf, BOK mt 81 x.1 x.2 := tb_c mt_J30_copyOf bf_J30_copyOf_0 (tb_n)
theorem bf_J21_grow_0 : BOKt mt tJ21_grow 82 0 b_J21_grow_0 := by
  refine bplain (pc' := 1) rfl dJ21_grow_0 rfl (ihN rfl) rfl ?_
  refine bthr (pc' := 4) rfl dJ21_grow_1 rfl (lkf0 q1062 lf_102) (trivial) (ihN rfl) rfl ?_
  refine bplain (pc' := 5) rfl dJ21_grow_4 rfl (ihN rfl) rfl ?_
  refine bplain (pc' := 6) rfl dJ21_grow_5 rfl (ihN rfl) rfl ?_
  refine bplain (pc' := 7) rfl dJ21_grow_6 rfl (ihN rfl) rfl ?_
  refine bplain (pc' := 9) rfl dJ21_grow_7 rfl (ihN rfl) rfl ?_
  refine bjmp (tg := 18) (pc' := 12) rfl (by decide) (by decide) rfl dJ21_grow_9 rfl (ihN rfl) rfl ?_
  refine bplain (pc' := 13) rfl dJ21_grow_12 rfl (ihN rfl) rfl ?_
  refine bplain (pc' := 14) rfl dJ21_grow_13 rfl (ihN rfl) rfl ?_
  refine bplain (pc' := 15) rfl dJ21_grow_14 rfl (ihN rfl) rfl ?_
  refine bjmp (tg := 21) (pc' := 18) rfl (by decide) (by decide) rfl dJ21_grow_15 rfl (ihN rfl) rfl ?_
  exact trivial
theorem bf_J21_grow_18 : BOKt mt tJ21_grow 82 18 b_J21_grow_18 := by
  refine bplain (pc' := 19) rfl dJ21_grow_18 rfl (ihN rfl) rfl ?_
  refine bplain (pc' := 20) rfl dJ21_grow_19 rfl (ihN rfl) rfl ?_
  refine bplain (pc' := 21) rfl dJ21_grow_20 rfl (ihN rfl) rfl ?_
  exact bnop0 rfl (by decide)
theorem bf_J21_grow_21 : BOKt mt tJ21_grow 82 21 b_J21_grow_21 := by
  refine bnop1 ?_
  refine bplain (pc' := 23) rfl dJ21_grow_21 rfl (ihN rfl) rfl ?_
  refine bplain (pc' := 25) rfl dJ21_grow_23 rfl (ihN rfl) rfl ?_
  refine bplain (pc' := 26) rfl dJ21_grow_25 rfl (ihN rfl) rfl ?_
  refine bjmp (tg := 41) (pc' := 29) rfl (by decide) (by decide) rfl dJ21_grow_26 rfl (ihN rfl) rfl ?_
  refine bplain (pc' := 30) rfl dJ21_grow_29 rfl (ihN rfl) rfl ?_
  refine bplain (pc' := 32) rfl dJ21_grow_30 rfl (ihN rfl) rfl ?_
  refine bplain (pc' := 33) rfl dJ21_grow_32 rfl (ihN rfl) rfl ?_
  refine bplain (pc' := 34) rfl dJ21_grow_33 rfl (ihN rfl) rfl ?_
  refine bplain (pc' := 35) rfl dJ21_grow_34 rfl (ihN rfl) rfl ?_
  refine bobj (pc' := 37) rfl dJ21_grow_35 rfl (lkl0 lc_260 q1431) (ihN rfl) rfl ?_
  refine bplain (pc' := 38) rfl dJ21_grow_37 rfl (ihN rfl) rfl ?_
  refine bjmp (tg := 49) (pc' := 41) rfl (by decide) (by decide) rfl dJ21_grow_38 rfl (ihN rfl) rfl ?_
  exact bnop0 rfl (by decide)
theorem bf_J21_grow_41 : BOKt mt tJ21_grow 82 41 b_J21_grow_41 := by
  refine bnop1 ?_
  refine bplain (pc' := 42) rfl dJ21_grow_41 rfl (ihN rfl) rfl ?_
  refine bplain (pc' := 43) rfl dJ21_grow_42 rfl (ihN rfl) rfl ?_
  refine bplain (pc' := 45) rfl dJ21_grow_43 rfl (ihN rfl) rfl ?_
  refine bcall (pc' := 48) rfl dJ21_grow_45 rfl (trivial) (lcv (n := 2) rfl (pvc (lfv mt_J21_newCapacity ⟨by decide, by decide⟩ mok_J21_newCapacity ⟨by decide, by decide⟩ ⟨q1434, ln_252, Or.inl ⟨q1432, Or.inl qs8⟩⟩) (trivial)) (Or.inl (by decide))) (ihN rfl) rfl ?_
  refine bplain (pc' := 49) rfl dJ21_grow_48 rfl (ihN rfl) rfl ?_
  exact bnop0 rfl (by decide)
theorem bf_J21_grow_49 : BOKt mt tJ21_grow 82 49 b_J21_grow_49 := by
  refine bnop1 ?_
  refine bplain (pc' := 50) rfl dJ21_grow_49 rfl (ihN rfl) rfl ?_
  refine bplain (pc' := 51) rfl dJ21_grow_50 rfl (ihN rfl) rfl ?_
  refine bthr (pc' := 54) rfl dJ21_grow_51 rfl (lkf0 q1062 lf_102) (trivial) (ihN rfl) rfl ?_
  refine bplain (pc' := 55) rfl dJ21_grow_54 rfl (ihN rfl) rfl ?_
  refine bcall (pc' := 58) rfl dJ21_grow_55 rfl (trivial) (lcs (l := q1438) mt_J30_copyOf ⟨by decide, by decide⟩ mok_J30_copyOf rfl ln_264 (Or.inl q1437)) (ihN rfl) rfl ?_
  refine bplain (pc' := 59) rfl dJ21_grow_58 rfl (ihN rfl) rfl ?_
  refine bobj (pc' := 62) rfl dJ21_grow_59 rfl (⟨lkf0 q1062 lf_102, lkp0 lp_103⟩) (ihN rfl) rfl ?_
  refine bplain (pc' := 64) rfl dJ21_grow_62 rfl (ihN rfl) rfl ?_
  refine bplain (pc' := 65) rfl dJ21_grow_64 rfl (ihN rfl) rfl ?_
  refine bthr (pc' := 68) rfl dJ21_grow_65 rfl (lkf0 q1066 lf_253) (trivial) (ihN rfl) rfl ?_
  refine bplain (pc' := 69) rfl dJ21_grow_68 rfl (ihN rfl) rfl ?_
  refine bthr (pc' := 72) rfl dJ21_grow_69 rfl (lkf0 q1065 lf_254) (trivial) (ihN rfl) rfl ?_
  refine bjmp (tg := 96) (pc' := 75) rfl (by decide) (by decide) rfl dJ21_grow_72 rfl (ihN rfl) rfl ?_
  refine bplain (pc' := 76) rfl dJ21_grow_75 rfl (ihN rfl) rfl ?_
  refine bthr (pc' := 79) rfl dJ21_grow_76 rfl (lkf0 q1066 lf_253) (trivial) (ihN rfl) rfl ?_
  refine bplain (pc' := 80) rfl dJ21_grow_79 rfl (ihN rfl) rfl ?_
  refine bthr (pc' := 83) rfl dJ21_grow_80 rfl (lkf0 q1065 lf_254) (trivial) (ihN rfl) rfl ?_
  refine bjmp (tg := 164) (pc' := 86) rfl (by decide) (by decide) rfl dJ21_grow_83 rfl (ihN rfl) rfl ?_
  refine bplain (pc' := 88) rfl dJ21_grow_86 rfl (ihN rfl) rfl ?_
  refine bplain (pc' := 89) rfl dJ21_grow_88 rfl (ihN rfl) rfl ?_
  refine bthr (pc' := 92) rfl dJ21_grow_89 rfl (lkf0 q1065 lf_254) (trivial) (ihN rfl) rfl ?_
  refine bplain (pc' := 93) rfl dJ21_grow_92 rfl (ihN rfl) rfl ?_
  refine bjmp (tg := 164) (pc' := 96) rfl (by decide) (by decide) rfl dJ21_grow_93 rfl (ihN rfl) rfl ?_
  exact bnop0 rfl (by decide)
theorem bf_J21_grow_96 : BOKt mt tJ21_grow 82 96 b_J21_grow_96 := by
  refine bnop1 ?_
  refine bplain (pc' := 97) rfl dJ21_grow_96 rfl (ihN rfl) rfl ?_
  refine bplain (pc' := 98) rfl dJ21_grow_97 rfl (ihN rfl) rfl ?_
  refine bplain (pc' := 99) rfl dJ21_grow_98 rfl (ihN rfl) rfl ?_
  refine bplain (pc' := 101) rfl dJ21_grow_99 rfl (ihN rfl) rfl ?_
  refine bplain (pc' := 103) rfl dJ21_grow_101 rfl (ihN rfl) rfl ?_
  refine bplain (pc' := 104) rfl dJ21_grow_103 rfl (ihN rfl) rfl ?_
  refine bthr (pc' := 107) rfl dJ21_grow_104 rfl (lkf0 q1065 lf_254) (trivial) (ihN rfl) rfl ?_
  refine bplain (pc' := 109) rfl dJ21_grow_107 rfl (ihN rfl) rfl ?_
  refine bplain (pc' := 110) rfl dJ21_grow_109 rfl (ihN rfl) rfl ?_
  refine bthr (pc' := 113) rfl dJ21_grow_110 rfl (lkf0 q1065 lf_254) (trivial) (ihN rfl) rfl ?_
  refine bplain (pc' := 115) rfl dJ21_grow_113 rfl (ihN rfl) rfl ?_
  refine bplain (pc' := 116) rfl dJ21_grow_115 rfl (ihN rfl) rfl ?_
  refine bplain (pc' := 117) rfl dJ21_grow_116 rfl (ihN rfl) rfl ?_
  refine bplain (pc' := 118) rfl dJ21_grow_117 rfl (ihN rfl) rfl ?_
  refine bthr (pc' := 121) rfl dJ21_grow_118 rfl (lkf0 q1065 lf_254) (trivial) (ihN rfl) rfl ?_
  refine bplain (pc' := 122) rfl dJ21_grow_121 rfl (ihN rfl) rfl ?_
  refine bcall (pc' := 125) rfl dJ21_grow_122 rfl (⟨q1448, q1380, q1379, q171⟩) (Or.inl rfl) (ihN rfl) rfl ?_
  refine bplain (pc' := 126) rfl dJ21_grow_125 rfl (ihN rfl) rfl ?_
  refine bthr (pc' := 129) rfl dJ21_grow_126 rfl (lkf0 q1065 lf_254) (trivial) (ihN rfl) rfl ?_
  refine bplain (pc' := 131) rfl dJ21_grow_129 rfl (ihN rfl) rfl ?_
  refine bplain (pc' := 132) rfl dJ21_grow_131 rfl (ihN rfl) rfl ?_
  refine bplain (pc' := 133) rfl dJ21_grow_132 rfl (ihN rfl) rfl ?_
  refine bthr (pc' := 136) rfl dJ21_grow_133 rfl (lkf0 q1065 lf_254) (trivial) (ihN rfl) rfl ?_
  refine bplain (pc' := 138) rfl dJ21_grow_136 rfl (ihN rfl) rfl ?_
  refine bplain (pc' := 139) rfl dJ21_grow_138 rfl (ihN rfl) rfl ?_
  refine bplain (pc' := 140) rfl dJ21_grow_139 rfl (ihN rfl) rfl ?_
  refine bobj (pc' := 143) rfl dJ21_grow_140 rfl (⟨lkf0 q1065 lf_254, lkp0 lp_257⟩) (ihN rfl) rfl ?_
  refine bplain (pc' := 145) rfl dJ21_grow_143 rfl (ihN rfl) rfl ?_
  exact bnop0 rfl (by decide)
theorem bf_J21_grow_145 : BOKt mt tJ21_grow 82 145 b_J21_grow_145 := by
  refine bnop1 ?_
  refine bplain (pc' := 147) rfl dJ21_grow_145 rfl (ihN rfl) rfl ?_
  refine bplain (pc' := 149) rfl dJ21_grow_147 rfl (ihN rfl) rfl ?_
  refine bjmp (tg := 164) (pc' := 152) rfl (by decide) (by decide) rfl dJ21_grow_149 rfl (ihN rfl) rfl ?_
  refine bplain (pc' := 154) rfl dJ21_grow_152 rfl (ihN rfl) rfl ?_
  refine bplain (pc' := 156) rfl dJ21_grow_154 rfl (ihN rfl) rfl ?_
  refine bplain (pc' := 157) rfl dJ21_grow_156 rfl (ihN rfl) rfl ?_
  refine bplain (pc' := 158) rfl dJ21_grow_157 rfl (ihN rfl) rfl ?_
  refine bplain (pc' := 161) rfl dJ21_grow_158 rfl (ihN rfl) rfl ?_
  refine bjmp (tg := 145) (pc' := 164) rfl (by decide) (by decide) rfl dJ21_grow_161 rfl (ihN rfl) rfl ?_
  exact trivial
theorem bf_J21_grow_164 : BOKt mt tJ21_grow 82 164 b_J21_grow_164 := by
  refine bnop1 ?_
  refine bret (pc' := 165) rfl dJ21_grow_164 rfl (rfl) (ihN rfl) rfl ?_
  exact trivial
theorem tf_J21_grow : ∀ x ∈ tb_J21_grow, BOK mt 82 x.1 x.2 := tb_c mt_J21_grow bf_J21_grow_0 (tb_c mt_J21_grow bf_J21_grow_18 (tb_c mt_J21_grow bf_J21_grow_21 (tb_c mt_J21_grow bf_J21_grow_41 (tb_c mt_J21_grow bf_J21_grow_49 (tb_c mt_J21_grow bf_J21_grow_96 (tb_c mt_J21_grow bf_J21_grow_145 (tb_c mt_J21_grow bf_J21_grow_164 (tb_n))))))))
theorem bf_J21_addLast_0 : BOKt mt tJ21_addLast 83 0 b_J21_addLast_0 := by
  refine bplain (pc' := 1) rfl dJ21_addLast_0 rfl (ihN rfl) rfl ?_
  refine bjmp (tg := 12) (pc' := 4) rfl (by decide) (by decide) rfl dJ21_addLast_1 rfl (ihN rfl) rfl ?_
  refine bthr (pc' := 7) rfl dJ21_addLast_4 rfl (trivial) (trivial) (ihN rfl) rfl ?_
  refine bplain (pc' := 8) rfl dJ21_addLast_7 rfl (ihN rfl) rfl ?_
  refine bcall (pc' := 11) rfl dJ21_addLast_8 rfl (trivial) (trivial) (ihN rfl) rfl ?_
  refine bplain (pc' := 12) rfl dJ21_addLast_11 rfl (ihN rfl) rfl ?_
  exact trivial
theorem bf_J21_addLast_12 : BOKt mt tJ21_addLast 83 12 b_J21_addLast_12 := by
  refine bplain (pc' := 13) rfl dJ21_addLast_12 rfl (ihN rfl) rfl ?_
  refine bthr (pc' := 16) rfl dJ21_addLast_13 rfl (lkf0 q1062 lf_102) (trivial) (ihN rfl) rfl ?_
  refine bplain (pc' := 17) rfl dJ21_addLast_16 rfl (ihN rfl) rfl ?_
  refine bplain (pc' := 18) rfl dJ21_addLast_17 rfl (ihN rfl) rfl ?_
  refine bplain (pc' := 19) rfl dJ21_addLast_18 rfl (ihN rfl) rfl ?_
  refine bthr (pc' := 22) rfl dJ21_addLast_19 rfl (lkf0 q1066 lf_253) (trivial) (ihN rfl) rfl ?_
  refine bplain (pc' := 23) rfl dJ21_addLast_22 rfl (ihN rfl) rfl ?_
  refine bplain (pc' := 24) rfl dJ21_addLast_23 rfl (ihN rfl) rfl ?_
  refine bplain (pc' := 25) rfl dJ21_addLast_24 rfl (ihN rfl) rfl ?_
  refine bthr (pc' := 28) rfl dJ21_addLast_25 rfl (lkf0 q1065 lf_254) (trivial) (ihN rfl) rfl ?_
  refine bplain (pc' := 29) rfl dJ21_addLast_28 rfl (ihN rfl) rfl ?_
  refine bplain (pc' := 30) rfl dJ21_addLast_29 rfl (ihN rfl) rfl ?_
  refine bthr (pc' := 33) rfl dJ21_addLast_30 rfl (lkf0 q1066 lf_253) (trivial) (ihN rfl) rfl ?_
  refine bplain (pc' := 34) rfl dJ21_addLast_33 rfl (ihN rfl) rfl ?_
  refine bplain (pc' := 35) rfl dJ21_addLast_34 rfl (ihN rfl) rfl ?_
  refine bcall (pc' := 38) rfl dJ21_addLast_35 rfl (trivial) (lcs (l := q1408) mt_J21_inc ⟨by decide, by decide⟩ mok_J21_inc rfl ln_252 (Or.inl q1407)) (ihN rfl) rfl ?_
  refine bplain (pc' := 39) rfl dJ21_addLast_38 rfl (ihN rfl) rfl ?_
  refine bobj (pc' := 42) rfl dJ21_addLast_39 rfl (⟨lkf0 q1066 lf_253, lkp0 lp_265⟩) (ihN rfl) rfl ?_
  refine bjmp (tg := 50) (pc' := 45) rfl (by decide) (by decide) rfl dJ21_addLast_42 rfl (ihN rfl) rfl ?_
  refine bplain (pc' := 46) rfl dJ21_addLast_45 rfl (ihN rfl) rfl ?_
  refine bplain (pc' := 47) rfl dJ21_addLast_46 rfl (ihN rfl) rfl ?_
  refine bcall (pc' := 50) rfl dJ21_addLast_47 rfl (trivial) (lcv (n := 1) rfl (pvc (lfv mt_J21_grow ⟨by decide, by decide⟩ mok_J21_grow ⟨by decide, by decide⟩ ⟨q1429, ln_115, Or.inl ⟨q1427, Or.inl qs7⟩⟩) (trivial)) (Or.inl (by decide))) (ihN rfl) rfl ?_
  exact bnop0 rfl (by decide)
theorem bf_J21_addLast_50 : BOKt mt tJ21_addLast 83 50 b_J21_addLast_50 := by
  refine bnop1 ?_
  refine bret (pc' := 51) rfl dJ21_addLast_50 rfl (rfl) (ihN rfl) rfl ?_
  exact trivial
theorem tf_J21_addLast : ∀ x ∈ tb_J21_addLast, BOK mt 83 x.1 x.2 := tb_c mt_J21_addLast bf_J21_addLast_0 (tb_c mt_J21_addLast bf_J21_addLast_12 (tb_c mt_J21_addLast bf_J21_addLast_50 (tb_n)))
theorem bf_X0_tells_0 : BOKt mt tX0_tells 84 0 b_X0_tells_0 := by
  refine bplain (pc' := 1) rfl dX0_tells_0 rfl (ihN rfl) rfl ?_
  refine bthr (pc' := 4) rfl dX0_tells_1 rfl (lkf0 q1119 lf_118) (trivial) (ihN rfl) rfl ?_
  refine bcall (pc' := 7) rfl dX0_tells_4 rfl (trivial) (lcv (n := 0) rfl (pvc (lfv mt_J21_size ⟨by decide, by decide⟩ mok_J21_size ⟨by decide, by decide⟩ ⟨q1394, ln_40, Or.inl ⟨q1393, Or.inl q1395⟩⟩) (trivial)) (Or.inl (by decide))) (ihN rfl) rfl ?_
  refine bplain (pc' := 9) rfl dX0_tells_7 rfl (ihN rfl) rfl ?_
  refine bjmp (tg := 20) (pc' := 12) rfl (by decide) (by decide) rfl dX0_tells_9 rfl (ihN rfl) rfl ?_
  refine bplain (pc' := 13) rfl dX0_tells_12 rfl (ihN rfl) rfl ?_
  refine bthr (pc' := 16) rfl dX0_tells_13 rfl (lkf0 q1119 lf_118) (trivial) (ihN rfl) rfl ?_
  refine bcall (pc' := 19) rfl dX0_tells_16 rfl (trivial) (lcv (n := 0) rfl (pvc (lfv mt_J21_pollFirst ⟨by decide, by decide⟩ mok_J21_pollFirst ⟨by decide, by decide⟩ ⟨q1401, ln_266, Or.inl ⟨q1400, Or.inl q1402⟩⟩) (trivial)) (Or.inl (by decide))) (ihN rfl) rfl ?_
  refine bplain (pc' := 20) rfl dX0_tells_19 rfl (ihN rfl) rfl ?_
  exact bnop0 rfl (by decide)
theorem bf_X0_tells_20 : BOKt mt tX0_tells 84 20 b_X0_tells_20 := by
  refine bplain (pc' := 21) rfl dX0_tells_20 rfl (ihN rfl) rfl ?_
  refine bthr (pc' := 24) rfl dX0_tells_21 rfl (lkf0 q1119 lf_118) (trivial) (ihN rfl) rfl ?_
  refine bthr (pc' := 27) rfl dX0_tells_24 rfl (⟨⟨by decide, by decide, by decide⟩, rfl, q1410, q1411, q172⟩) (trivial) (ihN rfl) rfl ?_
  refine bplain (pc' := 28) rfl dX0_tells_27 rfl (ihN rfl) rfl ?_
  refine bplain (pc' := 29) rfl dX0_tells_28 rfl (ihN rfl) rfl ?_
  refine bcall (pc' := 32) rfl dX0_tells_29 rfl (trivial) (lci mt_X5_init ⟨by decide, by decide⟩ mok_X5_init rfl rfl rfl ln_267 q1413 rfl (Or.inl q1412)) (ihN rfl) rfl ?_
  refine bcall (pc' := 35) rfl dX0_tells_32 rfl (trivial) (lcv (n := 1) rfl (pvc (lfv mt_J21_addLast ⟨by decide, by decide⟩ mok_J21_addLast ⟨by decide, by decide⟩ ⟨q1422, ln_268, Or.inl ⟨q1421, Or.inl q1423⟩⟩) (trivial)) (Or.inl (by decide))) (ihN rfl) rfl ?_
  refine bret (pc' := 36) rfl dX0_tells_35 rfl (rfl) (ihN rfl) rfl ?_
  exact trivial
theorem tf_X0_tells : ∀ x ∈ tb_X0_tells, BOK mt 84 x.1 x.2 := tb_c mt_X0_tells bf_X0_tells_0 (tb_c mt_X0_tells bf_X0_tells_20 (tb_n))
theorem bf_X0_turns_0 : BOKt mt tX0_turns 85 0 b_X0_turns_0 := by
  refine bplain (pc' := 1) rfl dX0_turns_0 rfl (ihN rfl) rfl ?_
  refine bplain (pc' := 2) rfl dX0_turns_1 rfl (ihN rfl) rfl ?_
  refine bplain (pc' := 3) rfl dX0_turns_2 rfl (ihN rfl) rfl ?_
  refine bobj (pc' := 6) rfl dX0_turns_3 rfl (lkq0 lc_269 q1385) (ihN rfl) rfl ?_
  refine bcall (pc' := 9) rfl dX0_turns_6 rfl (trivial) (lcs (l := q1214) mt_X0_in ⟨by decide, by decide⟩ mok_X0_in rfl ln_210 (Or.inl q1213)) (ihN rfl) rfl ?_
  refine bjmp (tg := 15) (pc' := 12) rfl (by decide) (by decide) rfl dX0_turns_9 rfl (ihN rfl) rfl ?_
  refine bplain (pc' := 14) rfl dX0_turns_12 rfl (ihN rfl) rfl ?_
  refine bret (pc' := 15) rfl dX0_turns_14 rfl (Or.inl ⟨rfl, rfl⟩) (ihN rfl) rfl ?_
  exact trivial
theorem bf_X0_turns_15 : BOKt mt tX0_turns 85 15 b_X0_turns_15 := by
  refine bplain (pc' := 16) rfl dX0_turns_15 rfl (ihN rfl) rfl ?_
  refine bthr (pc' := 19) rfl dX0_turns_16 rfl (lkf0 q1118 lf_270) (trivial) (ihN rfl) rfl ?_
  refine bplain (pc' := 20) rfl dX0_turns_19 rfl (ihN rfl) rfl ?_
  refine bplain (pc' := 21) rfl dX0_turns_20 rfl (ihN rfl) rfl ?_
  refine bplain (pc' := 22) rfl dX0_turns_21 rfl (ihN rfl) rfl ?_
  refine bobj (pc' := 25) rfl dX0_turns_22 rfl (⟨lkf0 q1118 lf_270, lkp0 lp_271⟩) (ihN rfl) rfl ?_
  refine bplain (pc' := 26) rfl dX0_turns_25 rfl (ihN rfl) rfl ?_
  refine bplain (pc' := 27) rfl dX0_turns_26 rfl (ihN rfl) rfl ?_
  refine bplain (pc' := 28) rfl dX0_turns_27 rfl (ihN rfl) rfl ?_
  refine bcall (pc' := 33) rfl dX0_turns_28 rfl (trivial) (⟨30, rfl, ⟨⟨by decide, by decide⟩, rfl, rfl, rfl⟩, (fun h => nomatch h), rfl, rfl, capl_of (by rfl)⟩) (ihN rfl) rfl ?_
  refine bcall (pc' := 36) rfl dX0_turns_33 rfl (trivial) (lcv (n := 1) rfl (pvc (lfv mt_X0_tells ⟨by decide, by decide⟩ mok_X0_tells ⟨by decide, by decide⟩ ⟨q1391, ln_267, Or.inl ⟨q1389, Or.inl qs6⟩⟩) (trivial)) (Or.inl (by decide))) (ihN rfl) rfl ?_
  refine bplain (pc' := 37) rfl dX0_turns_36 rfl (ihN rfl) rfl ?_
  refine bret (pc' := 38) rfl dX0_turns_37 rfl (Or.inl ⟨rfl, rfl⟩) (ihN rfl) rfl ?_
  exact trivial
theorem tf_X0_turns : ∀ x ∈ tb_X0_turns, BOK mt 85 x.1 x.2 := tb_c mt_X0_turns bf_X0_turns_0 (tb_c mt_X0_turns bf_X0_turns_15 (tb_n))
theorem bf_X3_logs_0 : BOKt mt tX3_logs 86 0 b_X3_logs_0 := by
  refine bplain (pc' := 1) rfl dX3_logs_0 rfl (ihN rfl) rfl ?_
  refine bthr (pc' := 4) rfl dX3_logs_1 rfl (lkf0 q2615 lf_272) (trivial) (ihN rfl) rfl ?_
  refine bplain (pc' := 6) rfl dX3_logs_4 rfl (ihN rfl) rfl ?_
  refine bjmp (tg := 53) (pc' := 9) rfl (by decide) (by decide) rfl dX3_logs_6 rfl (ihN rfl) rfl ?_
  refine bplain (pc' := 11) rfl dX3_logs_9 rfl (ihN rfl) rfl ?_
  refine bplain (pc' := 13) rfl dX3_logs_11 rfl (ihN rfl) rfl ?_
  exact bnop0 rfl (by decide)
theorem bf_X3_logs_13 : BOKt mt tX3_logs 86 13 b_X3_logs_13 := by
  refine bplain (pc' := 15) rfl dX3_logs_13 rfl (ihN rfl) rfl ?_
  refine bplain (pc' := 17) rfl dX3_logs_15 rfl (ihN rfl) rfl ?_
  refine bjmp (tg := 43) (pc' := 20) rfl (by decide) (by decide) rfl dX3_logs_17 rfl (ihN rfl) rfl ?_
  refine bplain (pc' := 21) rfl dX3_logs_20 rfl (ihN rfl) rfl ?_
  refine bthr (pc' := 24) rfl dX3_logs_21 rfl (lkf0 q2614 lf_173) (trivial) (ihN rfl) rfl ?_
  refine bplain (pc' := 26) rfl dX3_logs_24 rfl (ihN rfl) rfl ?_
  refine bplain (pc' := 28) rfl dX3_logs_26 rfl (ihN rfl) rfl ?_
  refine bplain (pc' := 29) rfl dX3_logs_28 rfl (ihN rfl) rfl ?_
  refine bplain (pc' := 30) rfl dX3_logs_29 rfl (ihN rfl) rfl ?_
  refine bthr (pc' := 33) rfl dX3_logs_30 rfl (lkf0 q2614 lf_173) (trivial) (ihN rfl) rfl ?_
  refine bplain (pc' := 35) rfl dX3_logs_33 rfl (ihN rfl) rfl ?_
  refine bplain (pc' := 36) rfl dX3_logs_35 rfl (ihN rfl) rfl ?_
  refine bplain (pc' := 37) rfl dX3_logs_36 rfl (ihN rfl) rfl ?_
  refine bplain (pc' := 40) rfl dX3_logs_37 rfl (ihN rfl) rfl ?_
  refine bjmp (tg := 13) (pc' := 43) rfl (by decide) (by decide) rfl dX3_logs_40 rfl (ihN rfl) rfl ?_
  exact trivial
theorem bf_X3_logs_43 : BOKt mt tX3_logs 86 43 b_X3_logs_43 := by
  refine bplain (pc' := 44) rfl dX3_logs_43 rfl (ihN rfl) rfl ?_
  refine bplain (pc' := 45) rfl dX3_logs_44 rfl (ihN rfl) rfl ?_
  refine bthr (pc' := 48) rfl dX3_logs_45 rfl (lkf0 q2615 lf_272) (trivial) (ihN rfl) rfl ?_
  refine bplain (pc' := 49) rfl dX3_logs_48 rfl (ihN rfl) rfl ?_
  refine bplain (pc' := 50) rfl dX3_logs_49 rfl (ihN rfl) rfl ?_
  refine bobj (pc' := 53) rfl dX3_logs_50 rfl (⟨lkf0 q2615 lf_272, lkp0 lp_273⟩) (ihN rfl) rfl ?_
  exact bnop0 rfl (by decide)
theorem bf_X3_logs_53 : BOKt mt tX3_logs 86 53 b_X3_logs_53 := by
  refine bnop1 ?_
  refine bplain (pc' := 54) rfl dX3_logs_53 rfl (ihN rfl) rfl ?_
  refine bthr (pc' := 57) rfl dX3_logs_54 rfl (lkf0 q2614 lf_173) (trivial) (ihN rfl) rfl ?_
  refine bplain (pc' := 59) rfl dX3_logs_57 rfl (ihN rfl) rfl ?_
  refine bplain (pc' := 60) rfl dX3_logs_59 rfl (ihN rfl) rfl ?_
  refine bthr (pc' := 63) rfl dX3_logs_60 rfl (lkf0 q2615 lf_272) (trivial) (ihN rfl) rfl ?_
  refine bplain (pc' := 64) rfl dX3_logs_63 rfl (ihN rfl) rfl ?_
  refine bplain (pc' := 65) rfl dX3_logs_64 rfl (ihN rfl) rfl ?_
  refine bplain (pc' := 66) rfl dX3_logs_65 rfl (ihN rfl) rfl ?_
  refine bplain (pc' := 67) rfl dX3_logs_66 rfl (ihN rfl) rfl ?_
  refine bthr (pc' := 70) rfl dX3_logs_67 rfl (lkf0 q2614 lf_173) (trivial) (ihN rfl) rfl ?_
  refine bplain (pc' := 72) rfl dX3_logs_70 rfl (ihN rfl) rfl ?_
  refine bplain (pc' := 73) rfl dX3_logs_72 rfl (ihN rfl) rfl ?_
  refine bthr (pc' := 76) rfl dX3_logs_73 rfl (lkf0 q2615 lf_272) (trivial) (ihN rfl) rfl ?_
  refine bplain (pc' := 77) rfl dX3_logs_76 rfl (ihN rfl) rfl ?_
  refine bplain (pc' := 78) rfl dX3_logs_77 rfl (ihN rfl) rfl ?_
  refine bplain (pc' := 79) rfl dX3_logs_78 rfl (ihN rfl) rfl ?_
  refine bplain (pc' := 80) rfl dX3_logs_79 rfl (ihN rfl) rfl ?_
  refine bplain (pc' := 81) rfl dX3_logs_80 rfl (ihN rfl) rfl ?_
  refine bplain (pc' := 82) rfl dX3_logs_81 rfl (ihN rfl) rfl ?_
  refine bthr (pc' := 85) rfl dX3_logs_82 rfl (lkf0 q2614 lf_173) (trivial) (ihN rfl) rfl ?_
  refine bplain (pc' := 87) rfl dX3_logs_85 rfl (ihN rfl) rfl ?_
  refine bplain (pc' := 88) rfl dX3_logs_87 rfl (ihN rfl) rfl ?_
  refine bthr (pc' := 91) rfl dX3_logs_88 rfl (lkf0 q2615 lf_272) (trivial) (ihN rfl) rfl ?_
  refine bplain (pc' := 92) rfl dX3_logs_91 rfl (ihN rfl) rfl ?_
  refine bplain (pc' := 93) rfl dX3_logs_92 rfl (ihN rfl) rfl ?_
  refine bplain (pc' := 94) rfl dX3_logs_93 rfl (ihN rfl) rfl ?_
  refine bplain (pc' := 95) rfl dX3_logs_94 rfl (ihN rfl) rfl ?_
  refine bplain (pc' := 96) rfl dX3_logs_95 rfl (ihN rfl) rfl ?_
  refine bplain (pc' := 97) rfl dX3_logs_96 rfl (ihN rfl) rfl ?_
  refine bthr (pc' := 100) rfl dX3_logs_97 rfl (lkf0 q2614 lf_173) (trivial) (ihN rfl) rfl ?_
  refine bplain (pc' := 102) rfl dX3_logs_100 rfl (ihN rfl) rfl ?_
  refine bplain (pc' := 103) rfl dX3_logs_102 rfl (ihN rfl) rfl ?_
  refine bthr (pc' := 106) rfl dX3_logs_103 rfl (lkf0 q2615 lf_272) (trivial) (ihN rfl) rfl ?_
  refine bplain (pc' := 107) rfl dX3_logs_106 rfl (ihN rfl) rfl ?_
  refine bplain (pc' := 108) rfl dX3_logs_107 rfl (ihN rfl) rfl ?_
  refine bplain (pc' := 109) rfl dX3_logs_108 rfl (ihN rfl) rfl ?_
  refine bplain (pc' := 111) rfl dX3_logs_109 rfl (ihN rfl) rfl ?_
  refine bplain (pc' := 112) rfl dX3_logs_111 rfl (ihN rfl) rfl ?_
  refine bplain (pc' := 113) rfl dX3_logs_112 rfl (ihN rfl) rfl ?_
  refine bthr (pc' := 116) rfl dX3_logs_113 rfl (lkf0 q2614 lf_173) (trivial) (ihN rfl) rfl ?_
  refine bplain (pc' := 118) rfl dX3_logs_116 rfl (ihN rfl) rfl ?_
  refine bplain (pc' := 119) rfl dX3_logs_118 rfl (ihN rfl) rfl ?_
  refine bthr (pc' := 122) rfl dX3_logs_119 rfl (lkf0 q2615 lf_272) (trivial) (ihN rfl) rfl ?_
  refine bplain (pc' := 123) rfl dX3_logs_122 rfl (ihN rfl) rfl ?_
  refine bplain (pc' := 124) rfl dX3_logs_123 rfl (ihN rfl) rfl ?_
  refine bplain (pc' := 125) rfl dX3_logs_124 rfl (ihN rfl) rfl ?_
  refine bplain (pc' := 127) rfl dX3_logs_125 rfl (ihN rfl) rfl ?_
  refine bplain (pc' := 128) rfl dX3_logs_127 rfl (ihN rfl) rfl ?_
  refine bplain (pc' := 129) rfl dX3_logs_128 rfl (ihN rfl) rfl ?_
  refine bplain (pc' := 130) rfl dX3_logs_129 rfl (ihN rfl) rfl ?_
  refine bthr (pc' := 133) rfl dX3_logs_130 rfl (lkf0 q2615 lf_272) (trivial) (ihN rfl) rfl ?_
  refine bplain (pc' := 134) rfl dX3_logs_133 rfl (ihN rfl) rfl ?_
  refine bplain (pc' := 135) rfl dX3_logs_134 rfl (ihN rfl) rfl ?_
  refine bobj (pc' := 138) rfl dX3_logs_135 rfl (⟨lkf0 q2615 lf_272, lkp0 lp_273⟩) (ihN rfl) rfl ?_
  refine bret (pc' := 139) rfl dX3_logs_138 rfl (rfl) (ihN rfl) rfl ?_
  exact trivial
theorem tf_X3_logs : ∀ x ∈ tb_X3_logs, BOK mt 86 x.1 x.2 := tb_c mt_X3_logs bf_X3_logs_0 (tb_c mt_X3_logs bf_X3_logs_13 (tb_c mt_X3_logs bf_X3_logs_43 (tb_c mt_X3_logs bf_X3_logs_53 (tb_n))))
theorem bf_X3_turns_0 : BOKt mt tX3_turns 87 0 b_X3_turns_0 := by
  refine bplain (pc' := 1) rfl dX3_turns_0 rfl (ihN rfl) rfl ?_
  refine bplain (pc' := 2) rfl dX3_turns_1 rfl (ihN rfl) rfl ?_
  refine bplain (pc' := 4) rfl dX3_turns_2 rfl (ihN rfl) rfl ?_
  refine bcall (pc' := 7) rfl dX3_turns_4 rfl (trivial) (lcs (l := q2747) mt_X3_in ⟨by decide, by decide⟩ mok_X3_in rfl ln_226 (Or.inl q2746)) (ihN rfl) rfl ?_
  refine bjmp (tg := 13) (pc' := 10) rfl (by decide) (by decide) rfl dX3_turns_7 rfl (ihN rfl) rfl ?_
  refine bplain (pc' := 12) rfl dX3_turns_10 rfl (ihN rfl) rfl ?_
  refine bret (pc' := 13) rfl dX3_turns_12 rfl (Or.inl ⟨rfl, rfl⟩) (ihN rfl) rfl ?_
  exact trivial
theorem bf_X3_turns_13 : BOKt mt tX3_turns 87 13 b_X3_turns_13 := by
  refine bplain (pc' := 14) rfl dX3_turns_13 rfl (ihN rfl) rfl ?_
  refine bthr (pc' := 17) rfl dX3_turns_14 rfl (lkf0 q2603 lf_274) (trivial) (ihN rfl) rfl ?_
  refine bplain (pc' := 18) rfl dX3_turns_17 rfl (ihN rfl) rfl ?_
  refine bplain (pc' := 19) rfl dX3_turns_18 rfl (ihN rfl) rfl ?_
  refine bplain (pc' := 20) rfl dX3_turns_19 rfl (ihN rfl) rfl ?_
  refine bplain (pc' := 21) rfl dX3_turns_20 rfl (ihN rfl) rfl ?_
  refine bplain (pc' := 22) rfl dX3_turns_21 rfl (ihN rfl) rfl ?_
  refine bthr (pc' := 25) rfl dX3_turns_22 rfl (lkf0 q2603 lf_274) (trivial) (ihN rfl) rfl ?_
  refine bplain (pc' := 26) rfl dX3_turns_25 rfl (ihN rfl) rfl ?_
  refine bplain (pc' := 27) rfl dX3_turns_26 rfl (ihN rfl) rfl ?_
  refine bcall (pc' := 30) rfl dX3_turns_27 rfl (trivial) (lcv (n := 5) rfl (pvc (lfv mt_X3_logs ⟨by decide, by decide⟩ mok_X3_logs ⟨by decide, by decide⟩ ⟨q2794, ln_275, Or.inl ⟨q2792, Or.inl qs66⟩⟩) (trivial)) (Or.inl (by decide))) (ihN rfl) rfl ?_
  refine bplain (pc' := 31) rfl dX3_turns_30 rfl (ihN rfl) rfl ?_
  refine bplain (pc' := 32) rfl dX3_turns_31 rfl (ihN rfl) rfl ?_
  refine bobj (pc' := 35) rfl dX3_turns_32 rfl (⟨lkf0 q2603 lf_274, lkp0 lp_276⟩) (ihN rfl) rfl ?_
  refine bplain (pc' := 36) rfl dX3_turns_35 rfl (ihN rfl) rfl ?_
  refine bret (pc' := 37) rfl dX3_turns_36 rfl (Or.inl ⟨rfl, rfl⟩) (ihN rfl) rfl ?_
  exact trivial
theorem tf_X3_turns : ∀ x ∈ tb_X3_turns, BOK mt 87 x.1 x.2 := tb_c mt_X3_turns bf_X3_turns_0 (tb_c mt_X3_turns bf_X3_turns_13 (tb_n))
theorem bf_X0_type_0 : BOKt mt tX0_type 88 0 b_X0_type_0 := by
  refine bplain (pc' := 1) rfl dX0_type_0 rfl (ihN rfl) rfl ?_
  refine bplain (pc' := 2) rfl dX0_type_1 rfl (ihN rfl) rfl ?_
  refine bplain (pc' := 3) rfl dX0_type_2 rfl (ihN rfl) rfl ?_
  refine bobj (pc' := 6) rfl dX0_type_3 rfl (lkq0 lc_277 q1453) (ihN rfl) rfl ?_
  refine bcall (pc' := 9) rfl dX0_type_6 rfl (trivial) (lcs (l := q1214) mt_X0_in ⟨by decide, by decide⟩ mok_X0_in rfl ln_210 (Or.inl q1213)) (ihN rfl) rfl ?_
  refine bjmp (tg := 15) (pc' := 12) rfl (by decide) (by decide) rfl dX0_type_9 rfl (ihN rfl) rfl ?_
  refine bplain (pc' := 14) rfl dX0_type_12 rfl (ihN rfl) rfl ?_
  refine bret (pc' := 15) rfl dX0_type_14 rfl (Or.inl ⟨rfl, rfl⟩) (ihN rfl) rfl ?_
  exact trivial
theorem bf_X0_type_15 : BOKt mt tX0_type 88 15 b_X0_type_15 := by
  refine bplain (pc' := 16) rfl dX0_type_15 rfl (ihN rfl) rfl ?_
  refine bthr (pc' := 19) rfl dX0_type_16 rfl (lkf0 q1121 lf_278) (trivial) (ihN rfl) rfl ?_
  refine bplain (pc' := 20) rfl dX0_type_19 rfl (ihN rfl) rfl ?_
  refine bjmp (tg := 26) (pc' := 23) rfl (by decide) (by decide) rfl dX0_type_20 rfl (ihN rfl) rfl ?_
  refine bplain (pc' := 25) rfl dX0_type_23 rfl (ihN rfl) rfl ?_
  refine bret (pc' := 26) rfl dX0_type_25 rfl (Or.inl ⟨rfl, rfl⟩) (ihN rfl) rfl ?_
  exact trivial
theorem bf_X0_type_26 : BOKt mt tX0_type 88 26 b_X0_type_26 := by
  refine bplain (pc' := 27) rfl dX0_type_26 rfl (ihN rfl) rfl ?_
  refine bthr (pc' := 30) rfl dX0_type_27 rfl (lkf0 q1120 lf_120) (trivial) (ihN rfl) rfl ?_
  refine bplain (pc' := 31) rfl dX0_type_30 rfl (ihN rfl) rfl ?_
  refine bthr (pc' := 34) rfl dX0_type_31 rfl (lkf0 q1121 lf_278) (trivial) (ihN rfl) rfl ?_
  refine bplain (pc' := 35) rfl dX0_type_34 rfl (ihN rfl) rfl ?_
  refine bplain (pc' := 36) rfl dX0_type_35 rfl (ihN rfl) rfl ?_
  refine bplain (pc' := 37) rfl dX0_type_36 rfl (ihN rfl) rfl ?_
  refine bplain (pc' := 38) rfl dX0_type_37 rfl (ihN rfl) rfl ?_
  refine bplain (pc' := 39) rfl dX0_type_38 rfl (ihN rfl) rfl ?_
  refine bthr (pc' := 42) rfl dX0_type_39 rfl (lkf0 q1121 lf_278) (trivial) (ihN rfl) rfl ?_
  refine bplain (pc' := 43) rfl dX0_type_42 rfl (ihN rfl) rfl ?_
  refine bplain (pc' := 44) rfl dX0_type_43 rfl (ihN rfl) rfl ?_
  refine bobj (pc' := 47) rfl dX0_type_44 rfl (⟨lkf0 q1121 lf_278, lkp0 lp_279⟩) (ihN rfl) rfl ?_
  refine bplain (pc' := 48) rfl dX0_type_47 rfl (ihN rfl) rfl ?_
  refine bthr (pc' := 51) rfl dX0_type_48 rfl (lkf0 q1121 lf_278) (trivial) (ihN rfl) rfl ?_
  refine bret (pc' := 52) rfl dX0_type_51 rfl (Or.inl ⟨rfl, rfl⟩) (ihN rfl) rfl ?_
  exact trivial
theorem tf_X0_type : ∀ x ∈ tb_X0_type, BOK mt 88 x.1 x.2 := tb_c mt_X0_type bf_X0_type_0 (tb_c mt_X0_type bf_X0_type_15 (tb_c mt_X0_type bf_X0_type_26 (tb_n)))
theorem bf_X3_type_0 : BOKt mt tX3_type 89 0 b_X3_type_0 := by
  refine bplain (pc' := 1) rfl dX3_type_0 rfl (ihN rfl) rfl ?_
  refine bplain (pc' := 2) rfl dX3_type_1 rfl (ihN rfl) rfl ?_
  refine bplain (pc' := 5) rfl dX3_type_2 rfl (ihN rfl) rfl ?_
  refine bcall (pc' := 8) rfl dX3_type_5 rfl (trivial) (lcs (l := q2747) mt_X3_in ⟨by decide, by decide⟩ mok_X3_in rfl ln_226 (Or.inl q2746)) (ihN rfl) rfl ?_
  refine bjmp (tg := 14) (pc' := 11) rfl (by decide) (by decide) rfl dX3_type_8 rfl (ihN rfl) rfl ?_
  refine bplain (pc' := 13) rfl dX3_type_11 rfl (ihN rfl) rfl ?_
  refine bret (pc' := 14) rfl dX3_type_13 rfl (Or.inl ⟨rfl, rfl⟩) (ihN rfl) rfl ?_
  exact trivial
theorem bf_X3_type_14 : BOKt mt tX3_type 89 14 b_X3_type_14 := by
  refine bplain (pc' := 15) rfl dX3_type_14 rfl (ihN rfl) rfl ?_
  refine bthr (pc' := 18) rfl dX3_type_15 rfl (lkf0 q2617 lf_280) (trivial) (ihN rfl) rfl ?_
  refine bplain (pc' := 19) rfl dX3_type_18 rfl (ihN rfl) rfl ?_
  refine bjmp (tg := 25) (pc' := 22) rfl (by decide) (by decide) rfl dX3_type_19 rfl (ihN rfl) rfl ?_
  refine bplain (pc' := 24) rfl dX3_type_22 rfl (ihN rfl) rfl ?_
  refine bret (pc' := 25) rfl dX3_type_24 rfl (Or.inl ⟨rfl, rfl⟩) (ihN rfl) rfl ?_
  exact trivial
theorem bf_X3_type_25 : BOKt mt tX3_type 89 25 b_X3_type_25 := by
  refine bplain (pc' := 26) rfl dX3_type_25 rfl (ihN rfl) rfl ?_
  refine bthr (pc' := 29) rfl dX3_type_26 rfl (lkf0 q2616 lf_175) (trivial) (ihN rfl) rfl ?_
  refine bplain (pc' := 30) rfl dX3_type_29 rfl (ihN rfl) rfl ?_
  refine bthr (pc' := 33) rfl dX3_type_30 rfl (lkf0 q2617 lf_280) (trivial) (ihN rfl) rfl ?_
  refine bplain (pc' := 34) rfl dX3_type_33 rfl (ihN rfl) rfl ?_
  refine bplain (pc' := 35) rfl dX3_type_34 rfl (ihN rfl) rfl ?_
  refine bplain (pc' := 36) rfl dX3_type_35 rfl (ihN rfl) rfl ?_
  refine bplain (pc' := 37) rfl dX3_type_36 rfl (ihN rfl) rfl ?_
  refine bthr (pc' := 40) rfl dX3_type_37 rfl (lkf0 q2617 lf_280) (trivial) (ihN rfl) rfl ?_
  refine bplain (pc' := 41) rfl dX3_type_40 rfl (ihN rfl) rfl ?_
  refine bplain (pc' := 42) rfl dX3_type_41 rfl (ihN rfl) rfl ?_
  refine bobj (pc' := 45) rfl dX3_type_42 rfl (⟨lkf0 q2617 lf_280, lkp0 lp_281⟩) (ihN rfl) rfl ?_
  refine bplain (pc' := 46) rfl dX3_type_45 rfl (ihN rfl) rfl ?_
  refine bthr (pc' := 49) rfl dX3_type_46 rfl (lkf0 q2617 lf_280) (trivial) (ihN rfl) rfl ?_
  refine bret (pc' := 50) rfl dX3_type_49 rfl (Or.inl ⟨rfl, rfl⟩) (ihN rfl) rfl ?_
  exact trivial
theorem tf_X3_type : ∀ x ∈ tb_X3_type, BOK mt 89 x.1 x.2 := tb_c mt_X3_type bf_X3_type_0 (tb_c mt_X3_type bf_X3_type_14 (tb_c mt_X3_type bf_X3_type_25 (tb_n)))
theorem bf_X0_wipe_0 : BOKt mt tX0_wipe 90 0 b_X0_wipe_0 := by
  refine bplain (pc' := 1) rfl dX0_wipe_0 rfl (ihN rfl) rfl ?_
  refine bthr (pc' := 4) rfl dX0_wipe_1 rfl (lkf0 q1121 lf_278) (trivial) (ihN rfl) rfl ?_
  refine bplain (pc' := 5) rfl dX0_wipe_4 rfl (ihN rfl) rfl ?_
  refine bplain (pc' := 6) rfl dX0_wipe_5 rfl (ihN rfl) rfl ?_
  refine bplain (pc' := 7) rfl dX0_wipe_6 rfl (ihN rfl) rfl ?_
  refine bobj (pc' := 10) rfl dX0_wipe_7 rfl (⟨lkf0 q1121 lf_278, lkp0 lp_279⟩) (ihN rfl) rfl ?_
  refine bplain (pc' := 11) rfl dX0_wipe_10 rfl (ihN rfl) rfl ?_
  refine bret (pc' := 12) rfl dX0_wipe_11 rfl (Or.inl ⟨rfl, rfl⟩) (ihN rfl) rfl ?_
  exact trivial
theorem tf_X0_wipe : ∀ x ∈ tb_X0_wipe, BOK mt 90 x.1 x.2 := tb_c mt_X0_wipe bf_X0_wipe_0 (tb_n)
theorem bf_X3_wipe_0 : BOKt mt tX3_wipe 91 0 b_X3_wipe_0 := by
  refine bplain (pc' := 1) rfl dX3_wipe_0 rfl (ihN rfl) rfl ?_
  refine bthr (pc' := 4) rfl dX3_wipe_1 rfl (lkf0 q2617 lf_280) (trivial) (ihN rfl) rfl ?_
  refine bplain (pc' := 5) rfl dX3_wipe_4 rfl (ihN rfl) rfl ?_
  refine bplain (pc' := 6) rfl dX3_wipe_5 rfl (ihN rfl) rfl ?_
  refine bplain (pc' := 7) rfl dX3_wipe_6 rfl (ihN rfl) rfl ?_
  refine bobj (pc' := 10) rfl dX3_wipe_7 rfl (⟨lkf0 q2617 lf_280, lkp0 lp_281⟩) (ihN rfl) rfl ?_
  refine bplain (pc' := 11) rfl dX3_wipe_10 rfl (ihN rfl) rfl ?_
  refine bret (pc' := 12) rfl dX3_wipe_11 rfl (Or.inl ⟨rfl, rfl⟩) (ihN rfl) rfl ?_
  exact trivial
theorem tf_X3_wipe : ∀ x ∈ tb_X3_wipe, BOK mt 91 x.1 x.2 := tb_c mt_X3_wipe bf_X3_wipe_0 (tb_n)
theorem bf_J31_init_0 : BOKt mt tJ31_init 92 0 b_J31_init_0 := by
  refine bplain (pc' := 1) rfl dJ31_init_0 rfl (ihN rfl) rfl ?_
  refine bcall (pc' := 4) rfl dJ31_init_1 rfl (trivial) (lco rfl ⟨q1474, q193, q194⟩) (ihN rfl) rfl ?_
  refine bobj (pc' := 7) rfl dJ31_init_4 rfl (lkg0 (j := 0) lc_13 q700 rfl) (ihN rfl) rfl ?_
  refine bjmp (tg := 25) (pc' := 10) rfl (by decide) (by decide) rfl dJ31_init_7 rfl (ihN rfl) rfl ?_
  refine bplain (pc' := 11) rfl dJ31_init_10 rfl (ihN rfl) rfl ?_
  refine bplain (pc' := 12) rfl dJ31_init_11 rfl (ihN rfl) rfl ?_
  refine bobj (pc' := 14) rfl dJ31_init_12 rfl (⟨by decide, rfl, q274⟩) (ihN rfl) rfl ?_
  refine bobj (pc' := 17) rfl dJ31_init_14 rfl (⟨lkf0 q1487 lf_282, lkp0 lp_283⟩) (ihN rfl) rfl ?_
  refine bplain (pc' := 18) rfl dJ31_init_17 rfl (ihN rfl) rfl ?_
  refine bplain (pc' := 19) rfl dJ31_init_18 rfl (ihN rfl) rfl ?_
  refine bobj (pc' := 22) rfl dJ31_init_19 rfl (⟨lkf0 q1488 lf_284, lkp0 lp_285⟩) (ihN rfl) rfl ?_
  refine bjmp (tg := 38) (pc' := 25) rfl (by decide) (by decide) rfl dJ31_init_22 rfl (ihN rfl) rfl ?_
  exact trivial
theorem bf_J31_init_25 : BOKt mt tJ31_init 92 25 b_J31_init_25 := by
  refine bplain (pc' := 26) rfl dJ31_init_25 rfl (ihN rfl) rfl ?_
  refine bplain (pc' := 27) rfl dJ31_init_26 rfl (ihN rfl) rfl ?_
  refine bcall (pc' := 30) rfl dJ31_init_27 rfl (trivial) (trivial) (ihN rfl) rfl ?_
  refine bobj (pc' := 33) rfl dJ31_init_30 rfl (⟨lkf0 q1487 lf_282, lkp0 lp_283⟩) (ihN rfl) rfl ?_
  refine bplain (pc' := 34) rfl dJ31_init_33 rfl (ihN rfl) rfl ?_
  refine bplain (pc' := 35) rfl dJ31_init_34 rfl (ihN rfl) rfl ?_
  refine bobj (pc' := 38) rfl dJ31_init_35 rfl (⟨lkf0 q1488 lf_284, lkp0 lp_285⟩) (ihN rfl) rfl ?_
  exact bnop0 rfl (by decide)
theorem bf_J31_init_38 : BOKt mt tJ31_init 92 38 b_J31_init_38 := by
  refine bnop1 ?_
  refine bret (pc' := 39) rfl dJ31_init_38 rfl (rfl) (ihN rfl) rfl ?_
  exact trivial
theorem tf_J31_init : ∀ x ∈ tb_J31_init, BOK mt 92 x.1 x.2 := tb_c mt_J31_init bf_J31_init_0 (tb_c mt_J31_init bf_J31_init_25 (tb_c mt_J31_init bf_J31_init_38 (tb_n)))
theorem bf_J32_init_0 : BOKt mt tJ32_init 93 0 b_J32_init_0 := by
  refine bplain (pc' := 1) rfl dJ32_init_0 rfl (ihN rfl) rfl ?_
  refine bplain (pc' := 2) rfl dJ32_init_1 rfl (ihN rfl) rfl ?_
  refine bcall (pc' := 5) rfl dJ32_init_2 rfl (trivial) (lci mt_J31_init ⟨by decide, by decide⟩ mok_J31_init rfl rfl rfl ln_115 q1472 rfl (Or.inl q1471)) (ihN rfl) rfl ?_
  refine bret (pc' := 6) rfl dJ32_init_5 rfl (rfl) (ihN rfl) rfl ?_
  exact trivial
theorem tf_J32_init : ∀ x ∈ tb_J32_init, BOK mt 93 x.1 x.2 := tb_c mt_J32_init bf_J32_init_0 (tb_n)
theorem bf_J8_max_0 : BOKt mt tJ8_max 94 0 b_J8_max_0 := by
  refine bplain (pc' := 1) rfl dJ8_max_0 rfl (ihN rfl) rfl ?_
  refine bplain (pc' := 2) rfl dJ8_max_1 rfl (ihN rfl) rfl ?_
  refine bjmp (tg := 9) (pc' := 5) rfl (by decide) (by decide) rfl dJ8_max_2 rfl (ihN rfl) rfl ?_
  refine bplain (pc' := 6) rfl dJ8_max_5 rfl (ihN rfl) rfl ?_
  refine bjmp (tg := 10) (pc' := 9) rfl (by decide) (by decide) rfl dJ8_max_6 rfl (ihN rfl) rfl ?_
  exact trivial
theorem bf_J8_max_9 : BOKt mt tJ8_max 94 9 b_J8_max_9 := by
  refine bplain (pc' := 10) rfl dJ8_max_9 rfl (ihN rfl) rfl ?_
  exact bnop0 rfl (by decide)
theorem bf_J8_max_10 : BOKt mt tJ8_max 94 10 b_J8_max_10 := by
  refine bnop1 ?_
  refine bret (pc' := 11) rfl dJ8_max_10 rfl (Or.inl ⟨rfl, rfl⟩) (ihN rfl) rfl ?_
  exact trivial
theorem tf_J8_max : ∀ x ∈ tb_J8_max, BOK mt 94 x.1 x.2 := tb_c mt_J8_max bf_J8_max_0 (tb_c mt_J8_max bf_J8_max_9 (tb_c mt_J8_max bf_J8_max_10 (tb_n)))
theorem bf_J4_hugeLength_0 : BOKt mt tJ4_hugeLength 95 0 b_J4_hugeLength_0 := by
  refine bplain (pc' := 1) rfl dJ4_hugeLength_0 rfl (ihN rfl) rfl ?_
  refine bplain (pc' := 2) rfl dJ4_hugeLength_1 rfl (ihN rfl) rfl ?_
  refine bplain (pc' := 3) rfl dJ4_hugeLength_2 rfl (ihN rfl) rfl ?_
  refine bplain (pc' := 4) rfl dJ4_hugeLength_3 rfl (ihN rfl) rfl ?_
  refine bplain (pc' := 5) rfl dJ4_hugeLength_4 rfl (ihN rfl) rfl ?_
  refine bjmp (tg := 49) (pc' := 8) rfl (by decide) (by decide) rfl dJ4_hugeLength_5 rfl (ihN rfl) rfl ?_
  refine bthr (pc' := 11) rfl dJ4_hugeLength_8 rfl (trivial) (trivial) (ihN rfl) rfl ?_
  refine bplain (pc' := 12) rfl dJ4_hugeLength_11 rfl (ihN rfl) rfl ?_
  refine bthr (pc' := 15) rfl dJ4_hugeLength_12 rfl (trivial) (trivial) (ihN rfl) rfl ?_
  refine bplain (pc' := 16) rfl dJ4_hugeLength_15 rfl (ihN rfl) rfl ?_
  refine bcall (pc' := 19) rfl dJ4_hugeLength_16 rfl (trivial) (trivial) (ihN rfl) rfl ?_
  refine bobj (pc' := 21) rfl dJ4_hugeLength_19 rfl (trivial) (ihN rfl) rfl ?_
  refine bcall (pc' := 24) rfl dJ4_hugeLength_21 rfl (trivial) (trivial) (ihN rfl) rfl ?_
  refine bplain (pc' := 25) rfl dJ4_hugeLength_24 rfl (ihN rfl) rfl ?_
  refine bcall (pc' := 28) rfl dJ4_hugeLength_25 rfl (trivial) (trivial) (ihN rfl) rfl ?_
  refine bobj (pc' := 30) rfl dJ4_hugeLength_28 rfl (trivial) (ihN rfl) rfl ?_
  refine bcall (pc' := 33) rfl dJ4_hugeLength_30 rfl (trivial) (trivial) (ihN rfl) rfl ?_
  refine bplain (pc' := 34) rfl dJ4_hugeLength_33 rfl (ihN rfl) rfl ?_
  refine bcall (pc' := 37) rfl dJ4_hugeLength_34 rfl (trivial) (trivial) (ihN rfl) rfl ?_
  refine bobj (pc' := 39) rfl dJ4_hugeLength_37 rfl (trivial) (ihN rfl) rfl ?_
  refine bcall (pc' := 42) rfl dJ4_hugeLength_39 rfl (trivial) (trivial) (ihN rfl) rfl ?_
  refine bcall (pc' := 45) rfl dJ4_hugeLength_42 rfl (trivial) (trivial) (ihN rfl) rfl ?_
  refine bcall (pc' := 48) rfl dJ4_hugeLength_45 rfl (trivial) (trivial) (ihN rfl) rfl ?_
  refine bplain (pc' := 49) rfl dJ4_hugeLength_48 rfl (ihN rfl) rfl ?_
  exact trivial
theorem bf_J4_hugeLength_49 : BOKt mt tJ4_hugeLength 95 49 b_J4_hugeLength_49 := by
  refine bplain (pc' := 50) rfl dJ4_hugeLength_49 rfl (ihN rfl) rfl ?_
  refine bobj (pc' := 52) rfl dJ4_hugeLength_50 rfl (lkl0 lc_260 q1520) (ihN rfl) rfl ?_
  refine bjmp (tg := 58) (pc' := 55) rfl (by decide) (by decide) rfl dJ4_hugeLength_52 rfl (ihN rfl) rfl ?_
  refine bobj (pc' := 57) rfl dJ4_hugeLength_55 rfl (lkl0 lc_260 q1520) (ihN rfl) rfl ?_
  refine bret (pc' := 58) rfl dJ4_hugeLength_57 rfl (Or.inl ⟨rfl, rfl⟩) (ihN rfl) rfl ?_
  exact trivial
theorem bf_J4_hugeLength_58 : BOKt mt tJ4_hugeLength 95 58 b_J4_hugeLength_58 := by
  refine bplain (pc' := 59) rfl dJ4_hugeLength_58 rfl (ihN rfl) rfl ?_
  refine bret (pc' := 60) rfl dJ4_hugeLength_59 rfl (Or.inl ⟨rfl, rfl⟩) (ihN rfl) rfl ?_
  exact trivial
theorem tf_J4_hugeLength : ∀ x ∈ tb_J4_hugeLength, BOK mt 95 x.1 x.2 := tb_c mt_J4_hugeLength bf_J4_hugeLength_0 (tb_c mt_J4_hugeLength bf_J4_hugeLength_49 (tb_c mt_J4_hugeLength bf_J4_hugeLength_58 (tb_n)))
theorem bf_J4_newLength_0 : BOKt mt tJ4_newLength 96 0 b_J4_newLength_0 := by
  refine bplain (pc' := 1) rfl dJ4_newLength_0 rfl (ihN rfl) rfl ?_
  refine bplain (pc' := 2) rfl dJ4_newLength_1 rfl (ihN rfl) rfl ?_
  refine bplain (pc' := 3) rfl dJ4_newLength_2 rfl (ihN rfl) rfl ?_
  refine bcall (pc' := 6) rfl dJ4_newLength_3 rfl (trivial) (lcs (l := q1518) mt_J8_max ⟨by decide, by decide⟩ mok_J8_max rfl ln_252 (Or.inl q1517)) (ihN rfl) rfl ?_
  refine bplain (pc' := 7) rfl dJ4_newLength_6 rfl (ihN rfl) rfl ?_
  refine bplain (pc' := 8) rfl dJ4_newLength_7 rfl (ihN rfl) rfl ?_
  refine bplain (pc' := 9) rfl dJ4_newLength_8 rfl (ihN rfl) rfl ?_
  refine bplain (pc' := 10) rfl dJ4_newLength_9 rfl (ihN rfl) rfl ?_
  refine bjmp (tg := 21) (pc' := 13) rfl (by decide) (by decide) rfl dJ4_newLength_10 rfl (ihN rfl) rfl ?_
  refine bplain (pc' := 14) rfl dJ4_newLength_13 rfl (ihN rfl) rfl ?_
  refine bobj (pc' := 16) rfl dJ4_newLength_14 rfl (lkl0 lc_260 q1520) (ihN rfl) rfl ?_
  refine bjmp (tg := 21) (pc' := 19) rfl (by decide) (by decide) rfl dJ4_newLength_16 rfl (ihN rfl) rfl ?_
  refine bplain (pc' := 20) rfl dJ4_newLength_19 rfl (ihN rfl) rfl ?_
  refine bret (pc' := 21) rfl dJ4_newLength_20 rfl (Or.inl ⟨rfl, rfl⟩) (ihN rfl) rfl ?_
  exact trivial
theorem bf_J4_newLength_21 : BOKt mt tJ4_newLength 96 21 b_J4_newLength_21 := by
  refine bnop1 ?_
  refine bplain (pc' := 22) rfl dJ4_newLength_21 rfl (ihN rfl) rfl ?_
  refine bplain (pc' := 23) rfl dJ4_newLength_22 rfl (ihN rfl) rfl ?_
  refine bcall (pc' := 26) rfl dJ4_newLength_23 rfl (trivial) (lcs (l := q1522) mt_J4_hugeLength ⟨by decide, by decide⟩ mok_J4_hugeLength rfl ln_252 (Or.inl q1521)) (ihN rfl) rfl ?_
  refine bret (pc' := 27) rfl dJ4_newLength_26 rfl (Or.inl ⟨rfl, rfl⟩) (ihN rfl) rfl ?_
  exact trivial
theorem tf_J4_newLength : ∀ x ∈ tb_J4_newLength, BOK mt 96 x.1 x.2 := tb_c mt_J4_newLength bf_J4_newLength_0 (tb_c mt_J4_newLength bf_J4_newLength_21 (tb_n))
theorem bf_J31_newCapacity_0 : BOKt mt tJ31_newCapacity 97 0 b_J31_newCapacity_0 := by
  refine bplain (pc' := 1) rfl dJ31_newCapacity_0 rfl (ihN rfl) rfl ?_
  refine bthr (pc' := 4) rfl dJ31_newCapacity_1 rfl (lkf0 q1487 lf_282) (trivial) (ihN rfl) rfl ?_
  refine bplain (pc' := 5) rfl dJ31_newCapacity_4 rfl (ihN rfl) rfl ?_
  refine bplain (pc' := 6) rfl dJ31_newCapacity_5 rfl (ihN rfl) rfl ?_
  refine bplain (pc' := 7) rfl dJ31_newCapacity_6 rfl (ihN rfl) rfl ?_
  refine bplain (pc' := 8) rfl dJ31_newCapacity_7 rfl (ihN rfl) rfl ?_
  refine bthr (pc' := 11) rfl dJ31_newCapacity_8 rfl (lkf0 q1488 lf_284) (trivial) (ihN rfl) rfl ?_
  refine bplain (pc' := 12) rfl dJ31_newCapacity_11 rfl (ihN rfl) rfl ?_
  refine bplain (pc' := 13) rfl dJ31_newCapacity_12 rfl (ihN rfl) rfl ?_
  refine bplain (pc' := 14) rfl dJ31_newCapacity_13 rfl (ihN rfl) rfl ?_
  refine bplain (pc' := 15) rfl dJ31_newCapacity_14 rfl (ihN rfl) rfl ?_
  refine bplain (pc' := 16) rfl dJ31_newCapacity_15 rfl (ihN rfl) rfl ?_
  refine bplain (pc' := 18) rfl dJ31_newCapacity_16 rfl (ihN rfl) rfl ?_
  refine bplain (pc' := 19) rfl dJ31_newCapacity_18 rfl (ihN rfl) rfl ?_
  refine bplain (pc' := 21) rfl dJ31_newCapacity_19 rfl (ihN rfl) rfl ?_
  refine bplain (pc' := 22) rfl dJ31_newCapacity_21 rfl (ihN rfl) rfl ?_
  refine bplain (pc' := 23) rfl dJ31_newCapacity_22 rfl (ihN rfl) rfl ?_
  refine bplain (pc' := 24) rfl dJ31_newCapacity_23 rfl (ihN rfl) rfl ?_
  refine bthr (pc' := 27) rfl dJ31_newCapacity_24 rfl (lkf0 q1488 lf_284) (trivial) (ihN rfl) rfl ?_
  refine bplain (pc' := 28) rfl dJ31_newCapacity_27 rfl (ihN rfl) rfl ?_
  refine bplain (pc' := 29) rfl dJ31_newCapacity_28 rfl (ihN rfl) rfl ?_
  refine bcall (pc' := 32) rfl dJ31_newCapacity_29 rfl (trivial) (lcs (l := q1515) mt_J4_newLength ⟨by decide, by decide⟩ mok_J4_newLength rfl ln_255 (Or.inl q1514)) (ihN rfl) rfl ?_
  refine bplain (pc' := 34) rfl dJ31_newCapacity_32 rfl (ihN rfl) rfl ?_
  refine bplain (pc' := 36) rfl dJ31_newCapacity_34 rfl (ihN rfl) rfl ?_
  refine bobj (pc' := 38) rfl dJ31_newCapacity_36 rfl (lkl0 lc_45 q1524) (ihN rfl) rfl ?_
  refine bjmp (tg := 51) (pc' := 41) rfl (by decide) (by decide) rfl dJ31_newCapacity_38 rfl (ihN rfl) rfl ?_
  refine bthr (pc' := 44) rfl dJ31_newCapacity_41 rfl (trivial) (trivial) (ihN rfl) rfl ?_
  refine bplain (pc' := 45) rfl dJ31_newCapacity_44 rfl (ihN rfl) rfl ?_
  refine bobj (pc' := 47) rfl dJ31_newCapacity_45 rfl (trivial) (ihN rfl) rfl ?_
  refine bcall (pc' := 50) rfl dJ31_newCapacity_47 rfl (trivial) (trivial) (ihN rfl) rfl ?_
  refine bplain (pc' := 51) rfl dJ31_newCapacity_50 rfl (ihN rfl) rfl ?_
  exact trivial
theorem bf_J31_newCapacity_51 : BOKt mt tJ31_newCapacity 97 51 b_J31_newCapacity_51 := by
  refine bplain (pc' := 53) rfl dJ31_newCapacity_51 rfl (ihN rfl) rfl ?_
  refine bplain (pc' := 54) rfl dJ31_newCapacity_53 rfl (ihN rfl) rfl ?_
  refine bthr (pc' := 57) rfl dJ31_newCapacity_54 rfl (lkf0 q1488 lf_284) (trivial) (ihN rfl) rfl ?_
  refine bplain (pc' := 58) rfl dJ31_newCapacity_57 rfl (ihN rfl) rfl ?_
  refine bret (pc' := 59) rfl dJ31_newCapacity_58 rfl (Or.inl ⟨rfl, rfl⟩) (ihN rfl) rfl ?_
  exact trivial
theorem tf_J31_newCapacity : ∀ x ∈ tb_J31_newCapacity, BOK mt 97 x.1 x.2 := tb_c mt_J31_newCapacity bf_J31_newCapacity_0 (tb_c mt_J31_newCapacity bf_J31_newCapacity_51 (tb_n))
theorem bf_J30_copyOf_3_0 : BOKt mt tJ30_copyOf_3 98 0 b_J30_copyOf_3_0 := by
  refine bplain (pc' := 1) rfl dJ30_copyOf_3_0 rfl (ihN rfl) rfl ?_
  refine bplain (pc' := 2) rfl dJ30_copyOf_3_1 rfl (ihN rfl) rfl ?_
  refine bplain (pc' := 3) rfl dJ30_copyOf_3_2 rfl (ihN rfl) rfl ?_
  refine bjmp (tg := 14) (pc' := 6) rfl (by decide) (by decide) rfl dJ30_copyOf_3_3 rfl (ihN rfl) rfl ?_
  refine bplain (pc' := 7) rfl dJ30_copyOf_3_6 rfl (ihN rfl) rfl ?_
  refine bcall (pc' := 10) rfl dJ30_copyOf_3_7 rfl (trivial) (trivial) (ihN rfl) rfl ?_
  refine bthr (pc' := 13) rfl dJ30_copyOf_3_10 rfl (lkc (nm := "[B") q1534 lg_15 lb_16) (Or.inl rfl) (ihN rfl) rfl ?_
  refine bret (pc' := 14) rfl dJ30_copyOf_3_13 rfl (⟨_, rfl, Or.inr ⟨_, rfl⟩⟩) (ihN rfl) rfl ?_
  exact trivial
theorem bf_J30_copyOf_3_14 : BOKt mt tJ30_copyOf_3 98 14 b_J30_copyOf_3_14 := by
  refine bplain (pc' := 15) rfl dJ30_copyOf_3_14 rfl (ihN rfl) rfl ?_
  refine bobj (pc' := 17) rfl dJ30_copyOf_3_15 rfl (⟨by decide, rfl, q274⟩) (ihN rfl) rfl ?_
  refine bplain (pc' := 18) rfl dJ30_copyOf_3_17 rfl (ihN rfl) rfl ?_
  refine bplain (pc' := 19) rfl dJ30_copyOf_3_18 rfl (ihN rfl) rfl ?_
  refine bplain (pc' := 20) rfl dJ30_copyOf_3_19 rfl (ihN rfl) rfl ?_
  refine bplain (pc' := 21) rfl dJ30_copyOf_3_20 rfl (ihN rfl) rfl ?_
  refine bplain (pc' := 22) rfl dJ30_copyOf_3_21 rfl (ihN rfl) rfl ?_
  refine bplain (pc' := 23) rfl dJ30_copyOf_3_22 rfl (ihN rfl) rfl ?_
  refine bplain (pc' := 24) rfl dJ30_copyOf_3_23 rfl (ihN rfl) rfl ?_
  refine bplain (pc' := 25) rfl dJ30_copyOf_3_24 rfl (ihN rfl) rfl ?_
  refine bcall (pc' := 28) rfl dJ30_copyOf_3_25 rfl (trivial) (lcs (l := q549) mt_J8_min ⟨by decide, by decide⟩ mok_J8_min rfl ln_252 (Or.inl q1446)) (ihN rfl) rfl ?_
  refine bcall (pc' := 31) rfl dJ30_copyOf_3_28 rfl (⟨q1447, q1380, q1379, q171⟩) (Or.inl rfl) (ihN rfl) rfl ?_
  refine bplain (pc' := 32) rfl dJ30_copyOf_3_31 rfl (ihN rfl) rfl ?_
  refine bret (pc' := 33) rfl dJ30_copyOf_3_32 rfl (⟨_, rfl, Or.inr ⟨_, rfl⟩⟩) (ihN rfl) rfl ?_
  exact trivial
theorem tf_J30_copyOf_3 : ∀ x ∈ tb_J30_copyOf_3, BOK mt 98 x.1 x.2 := tb_c mt_J30_copyOf_3 bf_J30_copyOf_3_0 (tb_c mt_J30_copyOf_3 bf_J30_copyOf_3_14 (tb_n))
theorem bf_J31_ensureCapacityInternal_0 : BOKt mt tJ31_ensureCapacityInternal 99 0 b_J31_ensureCapacityInternal_0 := by
  refine bplain (pc' := 1) rfl dJ31_ensureCapacityInternal_0 rfl (ihN rfl) rfl ?_
  refine bthr (pc' := 4) rfl dJ31_ensureCapacityInternal_1 rfl (lkf0 q1487 lf_282) (trivial) (ihN rfl) rfl ?_
  refine bplain (pc' := 5) rfl dJ31_ensureCapacityInternal_4 rfl (ihN rfl) rfl ?_
  refine bplain (pc' := 6) rfl dJ31_ensureCapacityInternal_5 rfl (ihN rfl) rfl ?_
  refine bthr (pc' := 9) rfl dJ31_ensureCapacityInternal_6 rfl (lkf0 q1488 lf_284) (trivial) (ihN rfl) rfl ?_
  refine bplain (pc' := 10) rfl dJ31_ensureCapacityInternal_9 rfl (ihN rfl) rfl ?_
  refine bplain (pc' := 11) rfl dJ31_ensureCapacityInternal_10 rfl (ihN rfl) rfl ?_
  refine bplain (pc' := 12) rfl dJ31_ensureCapacityInternal_11 rfl (ihN rfl) rfl ?_
  refine bplain (pc' := 13) rfl dJ31_ensureCapacityInternal_12 rfl (ihN rfl) rfl ?_
  refine bplain (pc' := 14) rfl dJ31_ensureCapacityInternal_13 rfl (ihN rfl) rfl ?_
  refine bjmp (tg := 38) (pc' := 17) rfl (by decide) (by decide) rfl dJ31_ensureCapacityInternal_14 rfl (ihN rfl) rfl ?_
  refine bplain (pc' := 18) rfl dJ31_ensureCapacityInternal_17 rfl (ihN rfl) rfl ?_
  refine bplain (pc' := 19) rfl dJ31_ensureCapacityInternal_18 rfl (ihN rfl) rfl ?_
  refine bthr (pc' := 22) rfl dJ31_ensureCapacityInternal_19 rfl (lkf0 q1487 lf_282) (trivial) (ihN rfl) rfl ?_
  refine bplain (pc' := 23) rfl dJ31_ensureCapacityInternal_22 rfl (ihN rfl) rfl ?_
  refine bplain (pc' := 24) rfl dJ31_ensureCapacityInternal_23 rfl (ihN rfl) rfl ?_
  refine bcall (pc' := 27) rfl dJ31_ensureCapacityInternal_24 rfl (trivial) (lcv (n := 1) rfl (pvc (lfv mt_J31_newCapacity ⟨by decide, by decide⟩ mok_J31_newCapacity ⟨by decide, by decide⟩ ⟨q1512, ln_225, Or.inl ⟨q1510, Or.inr ⟨q1511, "java/lang/StringBuilder", ⟨"java/lang/AbstractStringBuilder", "getValue", "()[B"⟩, q1587, rfl⟩⟩⟩) (trivial)) (Or.inl (by decide))) (ihN rfl) rfl ?_
  refine bplain (pc' := 28) rfl dJ31_ensureCapacityInternal_27 rfl (ihN rfl) rfl ?_
  refine bthr (pc' := 31) rfl dJ31_ensureCapacityInternal_28 rfl (lkf0 q1488 lf_284) (trivial) (ihN rfl) rfl ?_
  refine bplain (pc' := 32) rfl dJ31_ensureCapacityInternal_31 rfl (ihN rfl) rfl ?_
  refine bcall (pc' := 35) rfl dJ31_ensureCapacityInternal_32 rfl (trivial) (lcs (l := q1526) mt_J30_copyOf_3 ⟨by decide, by decide⟩ mok_J30_copyOf_3 rfl ln_286 (Or.inl q1525)) (ihN rfl) rfl ?_
  refine bobj (pc' := 38) rfl dJ31_ensureCapacityInternal_35 rfl (⟨lkf0 q1487 lf_282, lkp0 lp_283⟩) (ihN rfl) rfl ?_
  exact bnop0 rfl (by decide)
theorem bf_J31_ensureCapacityInternal_38 : BOKt mt tJ31_ensureCapacityInternal 99 38 b_J31_ensureCapacityInternal_38 := by
  refine bnop1 ?_
  refine bret (pc' := 39) rfl dJ31_ensureCapacityInternal_38 rfl (rfl) (ihN rfl) rfl ?_
  exact trivial
theorem tf_J31_ensureCapacityInternal : ∀ x ∈ tb_J31_ensureCapacityInternal, BOK mt 99 x.1 x.2 := tb_c mt_J31_ensureCapacityInternal bf_J31_ensureCapacityInternal_0 (tb_c mt_J31_ensureCapacityInternal bf_J31_ensureCapacityInternal_38 (tb_n))
theorem bf_J31_isLatin1_0 : BOKt mt tJ31_isLatin1 100 0 b_J31_isLatin1_0 := by
  refine bobj (pc' := 3) rfl dJ31_isLatin1_0 rfl (lkg0 (j := 0) lc_13 q700 rfl) (ihN rfl) rfl ?_
  refine bjmp (tg := 17) (pc' := 6) rfl (by decide) (by decide) rfl dJ31_isLatin1_3 rfl (ihN rfl) rfl ?_
  refine bplain (pc' := 7) rfl dJ31_isLatin1_6 rfl (ihN rfl) rfl ?_
  refine bthr (pc' := 10) rfl dJ31_isLatin1_7 rfl (lkf0 q1488 lf_284) (trivial) (ihN rfl) rfl ?_
  refine bjmp (tg := 17) (pc' := 13) rfl (by decide) (by decide) rfl dJ31_isLatin1_10 rfl (ihN rfl) rfl ?_
  refine bplain (pc' := 14) rfl dJ31_isLatin1_13 rfl (ihN rfl) rfl ?_
  refine bjmp (tg := 18) (pc' := 17) rfl (by decide) (by decide) rfl dJ31_isLatin1_14 rfl (ihN rfl) rfl ?_
  exact trivial
theorem bf_J31_isLatin1_17 : BOKt mt tJ31_isLatin1 100 17 b_J31_isLatin1_17 := by
  refine bnop1 ?_
  refine bplain (pc' := 18) rfl dJ31_isLatin1_17 rfl (ihN rfl) rfl ?_
  exact bnop0 rfl (by decide)
theorem bf_J31_isLatin1_18 : BOKt mt tJ31_isLatin1 100 18 b_J31_isLatin1_18 := by
  refine bnop1 ?_
  refine bret (pc' := 19) rfl dJ31_isLatin1_18 rfl (Or.inr ⟨rfl, rfl⟩) (ihN rfl) rfl ?_
  exact trivial
theorem tf_J31_isLatin1 : ∀ x ∈ tb_J31_isLatin1, BOK mt 100 x.1 x.2 := tb_c mt_J31_isLatin1 bf_J31_isLatin1_0 (tb_c mt_J31_isLatin1 bf_J31_isLatin1_17 (tb_c mt_J31_isLatin1 bf_J31_isLatin1_18 (tb_n)))
theorem bf_J3_canEncode_0 : BOKt mt tJ3_canEncode 101 0 b_J3_canEncode_0 := by
  refine bplain (pc' := 1) rfl dJ3_canEncode_0 rfl (ihN rfl) rfl ?_
  refine bplain (pc' := 4) rfl dJ3_canEncode_1 rfl (ihN rfl) rfl ?_
  refine bjmp (tg := 11) (pc' := 7) rfl (by decide) (by decide) rfl dJ3_canEncode_4 rfl (ihN rfl) rfl ?_
  refine bplain (pc' := 8) rfl dJ3_canEncode_7 rfl (ihN rfl) rfl ?_
  refine bjmp (tg := 12) (pc' := 11) rfl (by decide) (by decide) rfl dJ3_canEncode_8 rfl (ihN rfl) rfl ?_
  exact trivial
theorem bf_J3_canEncode_11 : BOKt mt tJ3_canEncode 101 11 b_J3_canEncode_11 := by
  refine bplain (pc' := 12) rfl dJ3_canEncode_11 rfl (ihN rfl) rfl ?_
  exact bnop0 rfl (by decide)
theorem bf_J3_canEncode_12 : BOKt mt tJ3_canEncode 101 12 b_J3_canEncode_12 := by
  refine bnop1 ?_
  refine bret (pc' := 13) rfl dJ3_canEncode_12 rfl (Or.inr ⟨rfl, rfl⟩) (ihN rfl) rfl ?_
  exact trivial
theorem tf_J3_canEncode : ∀ x ∈ tb_J3_canEncode, BOK mt 101 x.1 x.2 := tb_c mt_J3_canEncode bf_J3_canEncode_0 (tb_c mt_J3_canEncode bf_J3_canEncode_11 (tb_c mt_J3_canEncode bf_J3_canEncode_12 (tb_n)))
theorem bf_J31_append_0 : BOKt mt tJ31_append 102 0 b_J31_append_0 := by
  refine bplain (pc' := 1) rfl dJ31_append_0 rfl (ihN rfl) rfl ?_
  refine bplain (pc' := 2) rfl dJ31_append_1 rfl (ihN rfl) rfl ?_
  refine bthr (pc' := 5) rfl dJ31_append_2 rfl (lkf0 q1490 lf_287) (trivial) (ihN rfl) rfl ?_
  refine bplain (pc' := 6) rfl dJ31_append_5 rfl (ihN rfl) rfl ?_
  refine bplain (pc' := 7) rfl dJ31_append_6 rfl (ihN rfl) rfl ?_
  refine bcall (pc' := 10) rfl dJ31_append_7 rfl (trivial) (lcv (n := 1) rfl (pvc (lfv mt_J31_ensureCapacityInternal ⟨by decide, by decide⟩ mok_J31_ensureCapacityInternal ⟨by decide, by decide⟩ ⟨q1508, ln_115, Or.inl ⟨q1506, Or.inr ⟨q1507, "java/lang/StringBuilder", ⟨"java/lang/AbstractStringBuilder", "getValue", "()[B"⟩, q1587, rfl⟩⟩⟩) (trivial)) (Or.inl (by decide))) (ihN rfl) rfl ?_
  refine bplain (pc' := 11) rfl dJ31_append_10 rfl (ihN rfl) rfl ?_
  refine bcall (pc' := 14) rfl dJ31_append_11 rfl (trivial) (lcv (n := 0) rfl (pvc (lfv mt_J31_isLatin1 ⟨by decide, by decide⟩ mok_J31_isLatin1 ⟨by decide, by decide⟩ ⟨q696, ln_30, Or.inl ⟨q695, Or.inl q698⟩⟩) (trivial)) (Or.inl (by decide))) (ihN rfl) rfl ?_
  refine bjmp (tg := 45) (pc' := 17) rfl (by decide) (by decide) rfl dJ31_append_14 rfl (ihN rfl) rfl ?_
  refine bplain (pc' := 18) rfl dJ31_append_17 rfl (ihN rfl) rfl ?_
  refine bcall (pc' := 21) rfl dJ31_append_18 rfl (trivial) (lcs (l := q1536) mt_J3_canEncode ⟨by decide, by decide⟩ mok_J3_canEncode rfl ln_288 (Or.inl q1535)) (ihN rfl) rfl ?_
  refine bjmp (tg := 45) (pc' := 24) rfl (by decide) (by decide) rfl dJ31_append_21 rfl (ihN rfl) rfl ?_
  refine bplain (pc' := 25) rfl dJ31_append_24 rfl (ihN rfl) rfl ?_
  refine bthr (pc' := 28) rfl dJ31_append_25 rfl (lkf0 q1487 lf_282) (trivial) (ihN rfl) rfl ?_
  refine bplain (pc' := 29) rfl dJ31_append_28 rfl (ihN rfl) rfl ?_
  refine bplain (pc' := 30) rfl dJ31_append_29 rfl (ihN rfl) rfl ?_
  refine bthr (pc' := 33) rfl dJ31_append_30 rfl (lkf0 q1490 lf_287) (trivial) (ihN rfl) rfl ?_
  refine bplain (pc' := 34) rfl dJ31_append_33 rfl (ihN rfl) rfl ?_
  refine bplain (pc' := 35) rfl dJ31_append_34 rfl (ihN rfl) rfl ?_
  refine bplain (pc' := 36) rfl dJ31_append_35 rfl (ihN rfl) rfl ?_
  refine bobj (pc' := 39) rfl dJ31_append_36 rfl (⟨lkf0 q1490 lf_287, lkp0 lp_289⟩) (ihN rfl) rfl ?_
  refine bplain (pc' := 40) rfl dJ31_append_39 rfl (ihN rfl) rfl ?_
  refine bplain (pc' := 41) rfl dJ31_append_40 rfl (ihN rfl) rfl ?_
  refine bplain (pc' := 42) rfl dJ31_append_41 rfl (ihN rfl) rfl ?_
  refine bjmp (tg := 75) (pc' := 45) rfl (by decide) (by decide) rfl dJ31_append_42 rfl (ihN rfl) rfl ?_
  exact trivial
theorem bf_J31_append_45 : BOKt mt tJ31_append 102 45 b_J31_append_45 := by
  refine bplain (pc' := 46) rfl dJ31_append_45 rfl (ihN rfl) rfl ?_
  refine bcall (pc' := 49) rfl dJ31_append_46 rfl (trivial) (lcv (n := 0) rfl (pvc (lfv mt_J31_isLatin1 ⟨by decide, by decide⟩ mok_J31_isLatin1 ⟨by decide, by decide⟩ ⟨q696, ln_30, Or.inl ⟨q695, Or.inl q698⟩⟩) (trivial)) (Or.inl (by decide))) (ihN rfl) rfl ?_
  refine bjmp (tg := 56) (pc' := 52) rfl (by decide) (by decide) rfl dJ31_append_49 rfl (ihN rfl) rfl ?_
  refine bplain (pc' := 53) rfl dJ31_append_52 rfl (ihN rfl) rfl ?_
  refine bcall (pc' := 56) rfl dJ31_append_53 rfl (trivial) (trivial) (ihN rfl) rfl ?_
  exact bnop0 rfl (by decide)
theorem bf_J31_append_56 : BOKt mt tJ31_append 102 56 b_J31_append_56 := by
  refine bplain (pc' := 57) rfl dJ31_append_56 rfl (ihN rfl) rfl ?_
  refine bthr (pc' := 60) rfl dJ31_append_57 rfl (lkf0 q1487 lf_282) (trivial) (ihN rfl) rfl ?_
  refine bplain (pc' := 61) rfl dJ31_append_60 rfl (ihN rfl) rfl ?_
  refine bplain (pc' := 62) rfl dJ31_append_61 rfl (ihN rfl) rfl ?_
  refine bthr (pc' := 65) rfl dJ31_append_62 rfl (lkf0 q1490 lf_287) (trivial) (ihN rfl) rfl ?_
  refine bplain (pc' := 66) rfl dJ31_append_65 rfl (ihN rfl) rfl ?_
  refine bplain (pc' := 67) rfl dJ31_append_66 rfl (ihN rfl) rfl ?_
  refine bplain (pc' := 68) rfl dJ31_append_67 rfl (ihN rfl) rfl ?_
  refine bobj (pc' := 71) rfl dJ31_append_68 rfl (⟨lkf0 q1490 lf_287, lkp0 lp_289⟩) (ihN rfl) rfl ?_
  refine bplain (pc' := 72) rfl dJ31_append_71 rfl (ihN rfl) rfl ?_
  refine bcall (pc' := 75) rfl dJ31_append_72 rfl (trivial) (trivial) (ihN rfl) rfl ?_
  exact bnop0 rfl (by decide)
theorem bf_J31_append_75 : BOKt mt tJ31_append 102 75 b_J31_append_75 := by
  refine bnop1 ?_
  refine bplain (pc' := 76) rfl dJ31_append_75 rfl (ihN rfl) rfl ?_
  refine bret (pc' := 77) rfl dJ31_append_76 rfl (⟨_, rfl, Or.inl ⟨_, rfl⟩⟩) (ihN rfl) rfl ?_
  exact trivial
theorem tf_J31_append : ∀ x ∈ tb_J31_append, BOK mt 102 x.1 x.2 := tb_c mt_J31_append bf_J31_append_0 (tb_c mt_J31_append bf_J31_append_45 (tb_c mt_J31_append bf_J31_append_56 (tb_c mt_J31_append bf_J31_append_75 (tb_n))))
theorem bf_J32_append_0 : BOKt mt tJ32_append 103 0 b_J32_append_0 := by
  refine bplain (pc' := 1) rfl dJ32_append_0 rfl (ihN rfl) rfl ?_
  refine bplain (pc' := 2) rfl dJ32_append_1 rfl (ihN rfl) rfl ?_
  refine bcall (pc' := 5) rfl dJ32_append_2 rfl (trivial) (lcu mt_J31_append ⟨by decide, by decide⟩ mok_J31_append ⟨by decide, by decide⟩ rfl rfl ln_290 q1504 (by decide +kernel) q1503 q3204 q692) (ihN rfl) rfl ?_
  refine bplain (pc' := 6) rfl dJ32_append_5 rfl (ihN rfl) rfl ?_
  refine bplain (pc' := 7) rfl dJ32_append_6 rfl (ihN rfl) rfl ?_
  refine bret (pc' := 8) rfl dJ32_append_7 rfl (⟨_, rfl, Or.inl ⟨_, rfl⟩⟩) (ihN rfl) rfl ?_
  exact trivial
theorem tf_J32_append : ∀ x ∈ tb_J32_append, BOK mt 103 x.1 x.2 := tb_c mt_J32_append bf_J32_append_0 (tb_n)
theorem bf_J31_getValue_0 : BOKt mt tJ31_getValue 104 0 b_J31_getValue_0 := by
  refine bplain (pc' := 1) rfl dJ31_getValue_0 rfl (ihN rfl) rfl ?_
  refine bthr (pc' := 4) rfl dJ31_getValue_1 rfl (lkf0 q1487 lf_282) (trivial) (ihN rfl) rfl ?_
  refine bret (pc' := 5) rfl dJ31_getValue_4 rfl (⟨_, rfl, Or.inr ⟨_, rfl⟩⟩) (ihN rfl) rfl ?_
  exact trivial
theorem tf_J31_getValue : ∀ x ∈ tb_J31_getValue, BOK mt 104 x.1 x.2 := tb_c mt_J31_getValue bf_J31_getValue_0 (tb_n)
theorem bf_J31_length_0 : BOKt mt tJ31_length 105 0 b_J31_length_0 := by
  refine bplain (pc' := 1) rfl dJ31_length_0 rfl (ihN rfl) rfl ?_
  refine bthr (pc' := 4) rfl dJ31_length_1 rfl (lkf0 q1490 lf_287) (trivial) (ihN rfl) rfl ?_
  refine bret (pc' := 5) rfl dJ31_length_4 rfl (Or.inl ⟨rfl, rfl⟩) (ihN rfl) rfl ?_
  exact trivial
theorem tf_J31_length : ∀ x ∈ tb_J31_length, BOK mt 105 x.1 x.2 := tb_c mt_J31_length bf_J31_length_0 (tb_n)
theorem bf_J32_length_0 : BOKt mt tJ32_length 106 0 b_J32_length_0 := by
  refine bplain (pc' := 1) rfl dJ32_length_0 rfl (ihN rfl) rfl ?_
  refine bcall (pc' := 4) rfl dJ32_length_1 rfl (trivial) (lcu mt_J31_length ⟨by decide, by decide⟩ mok_J31_length ⟨by decide, by decide⟩ rfl rfl ln_40 q1590 (by decide +kernel) q1595 q1591 q692) (ihN rfl) rfl ?_
  refine bret (pc' := 5) rfl dJ32_length_4 rfl (Or.inl ⟨rfl, rfl⟩) (ihN rfl) rfl ?_
  exact trivial
theorem tf_J32_length : ∀ x ∈ tb_J32_length, BOK mt 106 x.1 x.2 := tb_c mt_J32_length bf_J32_length_0 (tb_n)
theorem bf_J30_checkLength_0 : BOKt mt tJ30_checkLength 107 0 b_J30_checkLength_0 := by
  refine bplain (pc' := 1) rfl dJ30_checkLength_0 rfl (ihN rfl) rfl ?_
  refine bplain (pc' := 2) rfl dJ30_checkLength_1 rfl (ihN rfl) rfl ?_
  refine bjmp (tg := 37) (pc' := 5) rfl (by decide) (by decide) rfl dJ30_checkLength_2 rfl (ihN rfl) rfl ?_
  refine bthr (pc' := 8) rfl dJ30_checkLength_5 rfl (trivial) (trivial) (ihN rfl) rfl ?_
  refine bplain (pc' := 9) rfl dJ30_checkLength_8 rfl (ihN rfl) rfl ?_
  refine bthr (pc' := 12) rfl dJ30_checkLength_9 rfl (trivial) (trivial) (ihN rfl) rfl ?_
  refine bplain (pc' := 13) rfl dJ30_checkLength_12 rfl (ihN rfl) rfl ?_
  refine bcall (pc' := 16) rfl dJ30_checkLength_13 rfl (trivial) (trivial) (ihN rfl) rfl ?_
  refine bplain (pc' := 17) rfl dJ30_checkLength_16 rfl (ihN rfl) rfl ?_
  refine bcall (pc' := 20) rfl dJ30_checkLength_17 rfl (trivial) (trivial) (ihN rfl) rfl ?_
  refine bobj (pc' := 23) rfl dJ30_checkLength_20 rfl (trivial) (ihN rfl) rfl ?_
  refine bcall (pc' := 26) rfl dJ30_checkLength_23 rfl (trivial) (trivial) (ihN rfl) rfl ?_
  refine bplain (pc' := 27) rfl dJ30_checkLength_26 rfl (ihN rfl) rfl ?_
  refine bcall (pc' := 30) rfl dJ30_checkLength_27 rfl (trivial) (trivial) (ihN rfl) rfl ?_
  refine bcall (pc' := 33) rfl dJ30_checkLength_30 rfl (trivial) (trivial) (ihN rfl) rfl ?_
  refine bcall (pc' := 36) rfl dJ30_checkLength_33 rfl (trivial) (trivial) (ihN rfl) rfl ?_
  refine bplain (pc' := 37) rfl dJ30_checkLength_36 rfl (ihN rfl) rfl ?_
  exact trivial
theorem bf_J30_checkLength_37 : BOKt mt tJ30_checkLength 107 37 b_J30_checkLength_37 := by
  refine bret (pc' := 38) rfl dJ30_checkLength_37 rfl (rfl) (ihN rfl) rfl ?_
  exact trivial
theorem tf_J30_checkLength : ∀ x ∈ tb_J30_checkLength, BOK mt 107 x.1 x.2 := tb_c mt_J30_checkLength bf_J30_checkLength_0 (tb_c mt_J30_checkLength bf_J30_checkLength_37 (tb_n))
theorem bf_J30_copyOfRangeByte_0 : BOKt mt tJ30_copyOfRangeByte 108 0 b_J30_copyOfRangeByte_0 := by
  refine bplain (pc' := 1) rfl dJ30_copyOfRangeByte_0 rfl (ihN rfl) rfl ?_
  refine bplain (pc' := 2) rfl dJ30_copyOfRangeByte_1 rfl (ihN rfl) rfl ?_
  refine bcall (pc' := 5) rfl dJ30_copyOfRangeByte_2 rfl (trivial) (lcs (l := q1605) mt_J30_checkLength ⟨by decide, by decide⟩ mok_J30_checkLength rfl ln_224 (Or.inl q1604)) (ihN rfl) rfl ?_
  refine bplain (pc' := 6) rfl dJ30_copyOfRangeByte_5 rfl (ihN rfl) rfl ?_
  refine bplain (pc' := 7) rfl dJ30_copyOfRangeByte_6 rfl (ihN rfl) rfl ?_
  refine bplain (pc' := 8) rfl dJ30_copyOfRangeByte_7 rfl (ihN rfl) rfl ?_
  refine bplain (pc' := 9) rfl dJ30_copyOfRangeByte_8 rfl (ihN rfl) rfl ?_
  refine bplain (pc' := 10) rfl dJ30_copyOfRangeByte_9 rfl (ihN rfl) rfl ?_
  refine bobj (pc' := 12) rfl dJ30_copyOfRangeByte_10 rfl (⟨by decide, rfl, q274⟩) (ihN rfl) rfl ?_
  refine bplain (pc' := 14) rfl dJ30_copyOfRangeByte_12 rfl (ihN rfl) rfl ?_
  refine bplain (pc' := 15) rfl dJ30_copyOfRangeByte_14 rfl (ihN rfl) rfl ?_
  refine bplain (pc' := 16) rfl dJ30_copyOfRangeByte_15 rfl (ihN rfl) rfl ?_
  refine bplain (pc' := 18) rfl dJ30_copyOfRangeByte_16 rfl (ihN rfl) rfl ?_
  refine bplain (pc' := 19) rfl dJ30_copyOfRangeByte_18 rfl (ihN rfl) rfl ?_
  refine bplain (pc' := 20) rfl dJ30_copyOfRangeByte_19 rfl (ihN rfl) rfl ?_
  refine bplain (pc' := 21) rfl dJ30_copyOfRangeByte_20 rfl (ihN rfl) rfl ?_
  refine bplain (pc' := 22) rfl dJ30_copyOfRangeByte_21 rfl (ihN rfl) rfl ?_
  refine bplain (pc' := 23) rfl dJ30_copyOfRangeByte_22 rfl (ihN rfl) rfl ?_
  refine bplain (pc' := 24) rfl dJ30_copyOfRangeByte_23 rfl (ihN rfl) rfl ?_
  refine bcall (pc' := 27) rfl dJ30_copyOfRangeByte_24 rfl (trivial) (lcs (l := q549) mt_J8_min ⟨by decide, by decide⟩ mok_J8_min rfl ln_252 (Or.inl q1446)) (ihN rfl) rfl ?_
  refine bcall (pc' := 30) rfl dJ30_copyOfRangeByte_27 rfl (⟨q1447, q1380, q1379, q171⟩) (Or.inl rfl) (ihN rfl) rfl ?_
  refine bplain (pc' := 32) rfl dJ30_copyOfRangeByte_30 rfl (ihN rfl) rfl ?_
  refine bret (pc' := 33) rfl dJ30_copyOfRangeByte_32 rfl (⟨_, rfl, Or.inr ⟨_, rfl⟩⟩) (ihN rfl) rfl ?_
  exact trivial
theorem tf_J30_copyOfRangeByte : ∀ x ∈ tb_J30_copyOfRangeByte, BOK mt 108 x.1 x.2 := tb_c mt_J30_copyOfRangeByte bf_J30_copyOfRangeByte_0 (tb_n)
theorem bf_J30_copyOfRange_0 : BOKt mt tJ30_copyOfRange 109 0 b_J30_copyOfRange_0 := by
  refine bplain (pc' := 1) rfl dJ30_copyOfRange_0 rfl (ihN rfl) rfl ?_
  refine bjmp (tg := 10) (pc' := 4) rfl (by decide) (by decide) rfl dJ30_copyOfRange_1 rfl (ihN rfl) rfl ?_
  refine bplain (pc' := 5) rfl dJ30_copyOfRange_4 rfl (ihN rfl) rfl ?_
  refine bplain (pc' := 6) rfl dJ30_copyOfRange_5 rfl (ihN rfl) rfl ?_
  refine bplain (pc' := 7) rfl dJ30_copyOfRange_6 rfl (ihN rfl) rfl ?_
  refine bjmp (tg := 17) (pc' := 10) rfl (by decide) (by decide) rfl dJ30_copyOfRange_7 rfl (ihN rfl) rfl ?_
  exact bnop0 rfl (by decide)
theorem bf_J30_copyOfRange_10 : BOKt mt tJ30_copyOfRange 109 10 b_J30_copyOfRange_10 := by
  refine bplain (pc' := 11) rfl dJ30_copyOfRange_10 rfl (ihN rfl) rfl ?_
  refine bplain (pc' := 12) rfl dJ30_copyOfRange_11 rfl (ihN rfl) rfl ?_
  refine bplain (pc' := 13) rfl dJ30_copyOfRange_12 rfl (ihN rfl) rfl ?_
  refine bcall (pc' := 16) rfl dJ30_copyOfRange_13 rfl (trivial) (lcs (l := q1602) mt_J30_copyOfRangeByte ⟨by decide, by decide⟩ mok_J30_copyOfRangeByte rfl ln_291 (Or.inl q1601)) (ihN rfl) rfl ?_
  refine bret (pc' := 17) rfl dJ30_copyOfRange_16 rfl (⟨_, rfl, Or.inr ⟨_, rfl⟩⟩) (ihN rfl) rfl ?_
  exact trivial
theorem bf_J30_copyOfRange_17 : BOKt mt tJ30_copyOfRange 109 17 b_J30_copyOfRange_17 := by
  refine bplain (pc' := 18) rfl dJ30_copyOfRange_17 rfl (ihN rfl) rfl ?_
  refine bcall (pc' := 21) rfl dJ30_copyOfRange_18 rfl (trivial) (trivial) (ihN rfl) rfl ?_
  refine bthr (pc' := 24) rfl dJ30_copyOfRange_21 rfl (lkc (nm := "[B") q1534 lg_15 lb_16) (Or.inl rfl) (ihN rfl) rfl ?_
  refine bret (pc' := 25) rfl dJ30_copyOfRange_24 rfl (⟨_, rfl, Or.inr ⟨_, rfl⟩⟩) (ihN rfl) rfl ?_
  exact trivial
theorem tf_J30_copyOfRange : ∀ x ∈ tb_J30_copyOfRange, BOK mt 109 x.1 x.2 := tb_c mt_J30_copyOfRange bf_J30_copyOfRange_0 (tb_c mt_J30_copyOfRange bf_J30_copyOfRange_10 (tb_c mt_J30_copyOfRange bf_J30_copyOfRange_17 (tb_n)))
theorem bf_J2_init_2_0 : BOKt mt tJ2_init_2 110 0 b_J2_init_2_0 := by
  refine bplain (pc' := 1) rfl dJ2_init_2_0 rfl (ihN rfl) rfl ?_
  refine bcall (pc' := 4) rfl dJ2_init_2_1 rfl (trivial) (lco rfl ⟨q1583, q193, q194⟩) (ihN rfl) rfl ?_
  refine bplain (pc' := 5) rfl dJ2_init_2_4 rfl (ihN rfl) rfl ?_
  refine bcall (pc' := 8) rfl dJ2_init_2_5 rfl (trivial) (lcv (n := 0) rfl (pvc (lfv mt_J31_getValue ⟨by decide, by decide⟩ mok_J31_getValue ⟨by decide, by decide⟩ ⟨q1585, ln_292, Or.inl ⟨q1584, Or.inl q1587⟩⟩) (trivial)) (Or.inl (by decide))) (ihN rfl) rfl ?_
  refine bplain (pc' := 9) rfl dJ2_init_2_8 rfl (ihN rfl) rfl ?_
  refine bplain (pc' := 10) rfl dJ2_init_2_9 rfl (ihN rfl) rfl ?_
  refine bcall (pc' := 13) rfl dJ2_init_2_10 rfl (trivial) (lcv (n := 0) rfl (pvc (lfv mt_J32_length ⟨by decide, by decide⟩ mok_J32_length ⟨by decide, by decide⟩ ⟨q1593, ln_40, Or.inr (Or.inr ⟨rfl, ⟨"java/lang/AbstractStringBuilder", "length", "()I"⟩, "java/lang/AbstractStringBuilder", q1589, q1591, lv_293, ln_40, q1592, Or.inl ⟨_, _, _, q1590, q1596⟩⟩)⟩) (trivial)) (Or.inl (by decide))) (ihN rfl) rfl ?_
  refine bplain (pc' := 15) rfl dJ2_init_2_13 rfl (ihN rfl) rfl ?_
  refine bplain (pc' := 16) rfl dJ2_init_2_15 rfl (ihN rfl) rfl ?_
  refine bcall (pc' := 19) rfl dJ2_init_2_16 rfl (trivial) (lcv (n := 0) rfl (pvc (lfv mt_J31_isLatin1 ⟨by decide, by decide⟩ mok_J31_isLatin1 ⟨by decide, by decide⟩ ⟨q696, ln_30, Or.inl ⟨q1597, Or.inl q698⟩⟩) (trivial)) (Or.inl (by decide))) (ihN rfl) rfl ?_
  refine bjmp (tg := 41) (pc' := 22) rfl (by decide) (by decide) rfl dJ2_init_2_19 rfl (ihN rfl) rfl ?_
  refine bplain (pc' := 23) rfl dJ2_init_2_22 rfl (ihN rfl) rfl ?_
  refine bplain (pc' := 24) rfl dJ2_init_2_23 rfl (ihN rfl) rfl ?_
  refine bobj (pc' := 27) rfl dJ2_init_2_24 rfl (⟨lkf0 q1618 lf_294, lkp1 rfl lp_295⟩) (ihN rfl) rfl ?_
  refine bplain (pc' := 28) rfl dJ2_init_2_27 rfl (ihN rfl) rfl ?_
  refine bplain (pc' := 29) rfl dJ2_init_2_28 rfl (ihN rfl) rfl ?_
  refine bplain (pc' := 30) rfl dJ2_init_2_29 rfl (ihN rfl) rfl ?_
  refine bplain (pc' := 32) rfl dJ2_init_2_30 rfl (ihN rfl) rfl ?_
  refine bcall (pc' := 35) rfl dJ2_init_2_32 rfl (trivial) (lcs (l := q1599) mt_J30_copyOfRange ⟨by decide, by decide⟩ mok_J30_copyOfRange rfl ln_291 (Or.inl q1598)) (ihN rfl) rfl ?_
  refine bobj (pc' := 38) rfl dJ2_init_2_35 rfl (⟨lkf0 q1617 lf_296, lkp1 rfl lp_297⟩) (ihN rfl) rfl ?_
  refine bjmp (tg := 97) (pc' := 41) rfl (by decide) (by decide) rfl dJ2_init_2_38 rfl (ihN rfl) rfl ?_
  exact trivial
theorem bf_J2_init_2_41 : BOKt mt tJ2_init_2 110 41 b_J2_init_2_41 := by
  refine bobj (pc' := 44) rfl dJ2_init_2_41 rfl (lkg0 (j := 0) lc_13 q316 rfl) (ihN rfl) rfl ?_
  refine bjmp (tg := 79) (pc' := 47) rfl (by decide) (by decide) rfl dJ2_init_2_44 rfl (ihN rfl) rfl ?_
  refine bplain (pc' := 48) rfl dJ2_init_2_47 rfl (ihN rfl) rfl ?_
  refine bthr (pc' := 51) rfl dJ2_init_2_48 rfl (lkf0 q1489 lf_298) (trivial) (ihN rfl) rfl ?_
  refine bjmp (tg := 79) (pc' := 54) rfl (by decide) (by decide) rfl dJ2_init_2_51 rfl (ihN rfl) rfl ?_
  refine bplain (pc' := 55) rfl dJ2_init_2_54 rfl (ihN rfl) rfl ?_
  refine bplain (pc' := 56) rfl dJ2_init_2_55 rfl (ihN rfl) rfl ?_
  refine bplain (pc' := 57) rfl dJ2_init_2_56 rfl (ihN rfl) rfl ?_
  refine bplain (pc' := 59) rfl dJ2_init_2_57 rfl (ihN rfl) rfl ?_
  refine bcall (pc' := 62) rfl dJ2_init_2_59 rfl (trivial) (trivial) (ihN rfl) rfl ?_
  refine bobj (pc' := 65) rfl dJ2_init_2_62 rfl (⟨lkf0 q1617 lf_296, lkp1 rfl lp_297⟩) (ihN rfl) rfl ?_
  refine bplain (pc' := 66) rfl dJ2_init_2_65 rfl (ihN rfl) rfl ?_
  refine bplain (pc' := 67) rfl dJ2_init_2_66 rfl (ihN rfl) rfl ?_
  refine bthr (pc' := 70) rfl dJ2_init_2_67 rfl (lkf0 q1617 lf_31) (trivial) (ihN rfl) rfl ?_
  refine bplain (pc' := 72) rfl dJ2_init_2_70 rfl (ihN rfl) rfl ?_
  refine bcall (pc' := 75) rfl dJ2_init_2_72 rfl (trivial) (trivial) (ihN rfl) rfl ?_
  refine bobj (pc' := 78) rfl dJ2_init_2_75 rfl (⟨lkf0 q1618 lf_294, lkp1 rfl lp_295⟩) (ihN rfl) rfl ?_
  refine bret (pc' := 79) rfl dJ2_init_2_78 rfl (rfl) (ihN rfl) rfl ?_
  exact trivial
theorem bf_J2_init_2_79 : BOKt mt tJ2_init_2 110 79 b_J2_init_2_79 := by
  refine bnop1 ?_
  refine bplain (pc' := 80) rfl dJ2_init_2_79 rfl (ihN rfl) rfl ?_
  refine bplain (pc' := 81) rfl dJ2_init_2_80 rfl (ihN rfl) rfl ?_
  refine bobj (pc' := 84) rfl dJ2_init_2_81 rfl (⟨lkf0 q1618 lf_294, lkp1 rfl lp_295⟩) (ihN rfl) rfl ?_
  refine bplain (pc' := 85) rfl dJ2_init_2_84 rfl (ihN rfl) rfl ?_
  refine bplain (pc' := 86) rfl dJ2_init_2_85 rfl (ihN rfl) rfl ?_
  refine bplain (pc' := 87) rfl dJ2_init_2_86 rfl (ihN rfl) rfl ?_
  refine bplain (pc' := 89) rfl dJ2_init_2_87 rfl (ihN rfl) rfl ?_
  refine bplain (pc' := 90) rfl dJ2_init_2_89 rfl (ihN rfl) rfl ?_
  refine bplain (pc' := 91) rfl dJ2_init_2_90 rfl (ihN rfl) rfl ?_
  refine bcall (pc' := 94) rfl dJ2_init_2_91 rfl (trivial) (lcs (l := q1599) mt_J30_copyOfRange ⟨by decide, by decide⟩ mok_J30_copyOfRange rfl ln_291 (Or.inl q1598)) (ihN rfl) rfl ?_
  refine bobj (pc' := 97) rfl dJ2_init_2_94 rfl (⟨lkf0 q1617 lf_296, lkp1 rfl lp_297⟩) (ihN rfl) rfl ?_
  exact bnop0 rfl (by decide)
theorem bf_J2_init_2_97 : BOKt mt tJ2_init_2 110 97 b_J2_init_2_97 := by
  refine bnop1 ?_
  refine bret (pc' := 98) rfl dJ2_init_2_97 rfl (rfl) (ihN rfl) rfl ?_
  exact trivial
theorem tf_J2_init_2 : ∀ x ∈ tb_J2_init_2, BOK mt 110 x.1 x.2 := tb_c mt_J2_init_2 bf_J2_init_2_0 (tb_c mt_J2_init_2 bf_J2_init_2_41 (tb_c mt_J2_init_2 bf_J2_init_2_79 (tb_c mt_J2_init_2 bf_J2_init_2_97 (tb_n))))
theorem bf_J2_init_0 : BOKt mt tJ2_init 111 0 b_J2_init_0 := by
  refine bplain (pc' := 1) rfl dJ2_init_0 rfl (ihN rfl) rfl ?_
  refine bplain (pc' := 2) rfl dJ2_init_1 rfl (ihN rfl) rfl ?_
  refine bplain (pc' := 3) rfl dJ2_init_2 rfl (ihN rfl) rfl ?_
  refine bcall (pc' := 6) rfl dJ2_init_3 rfl (trivial) (lci mt_J2_init_2 ⟨by decide, by decide⟩ mok_J2_init_2 rfl rfl rfl ln_299 q1581 rfl (Or.inl q1580)) (ihN rfl) rfl ?_
  refine bret (pc' := 7) rfl dJ2_init_6 rfl (rfl) (ihN rfl) rfl ?_
  exact trivial
theorem tf_J2_init : ∀ x ∈ tb_J2_init, BOK mt 111 x.1 x.2 := tb_c mt_J2_init bf_J2_init_0 (tb_n)
theorem bf_J32_toString_0 : BOKt mt tJ32_toString 112 0 b_J32_toString_0 := by
  refine bthr (pc' := 3) rfl dJ32_toString_0 rfl (⟨⟨by decide, by decide, by decide⟩, rfl, q1576, q1204, q138⟩) (trivial) (ihN rfl) rfl ?_
  refine bplain (pc' := 4) rfl dJ32_toString_3 rfl (ihN rfl) rfl ?_
  refine bplain (pc' := 5) rfl dJ32_toString_4 rfl (ihN rfl) rfl ?_
  refine bcall (pc' := 8) rfl dJ32_toString_5 rfl (trivial) (lci mt_J2_init ⟨by decide, by decide⟩ mok_J2_init rfl rfl rfl ln_300 q1578 rfl (Or.inl q1577)) (ihN rfl) rfl ?_
  refine bret (pc' := 9) rfl dJ32_toString_8 rfl (⟨_, rfl, Or.inl ⟨_, rfl⟩⟩) (ihN rfl) rfl ?_
  exact trivial
theorem tf_J32_toString : ∀ x ∈ tb_J32_toString, BOK mt 112 x.1 x.2 := tb_c mt_J32_toString bf_J32_toString_0 (tb_n)
theorem bf_J1_getNode_0 : BOKt mt tJ1_getNode 113 0 b_J1_getNode_0 := by
  refine bplain (pc' := 1) rfl dJ1_getNode_0 rfl (ihN rfl) rfl ?_
  refine bthr (pc' := 4) rfl dJ1_getNode_1 rfl (lkf0 q208 lf_42) (trivial) (ihN rfl) rfl ?_
  refine bplain (pc' := 5) rfl dJ1_getNode_4 rfl (ihN rfl) rfl ?_
  refine bplain (pc' := 6) rfl dJ1_getNode_5 rfl (ihN rfl) rfl ?_
  refine bjmp (tg := 148) (pc' := 9) rfl (by decide) (by decide) rfl dJ1_getNode_6 rfl (ihN rfl) rfl ?_
  refine bplain (pc' := 10) rfl dJ1_getNode_9 rfl (ihN rfl) rfl ?_
  refine bplain (pc' := 11) rfl dJ1_getNode_10 rfl (ihN rfl) rfl ?_
  refine bplain (pc' := 12) rfl dJ1_getNode_11 rfl (ihN rfl) rfl ?_
  refine bplain (pc' := 14) rfl dJ1_getNode_12 rfl (ihN rfl) rfl ?_
  refine bjmp (tg := 148) (pc' := 17) rfl (by decide) (by decide) rfl dJ1_getNode_14 rfl (ihN rfl) rfl ?_
  refine bplain (pc' := 18) rfl dJ1_getNode_17 rfl (ihN rfl) rfl ?_
  refine bplain (pc' := 20) rfl dJ1_getNode_18 rfl (ihN rfl) rfl ?_
  refine bplain (pc' := 21) rfl dJ1_getNode_20 rfl (ihN rfl) rfl ?_
  refine bplain (pc' := 22) rfl dJ1_getNode_21 rfl (ihN rfl) rfl ?_
  refine bplain (pc' := 23) rfl dJ1_getNode_22 rfl (ihN rfl) rfl ?_
  refine bcall (pc' := 26) rfl dJ1_getNode_23 rfl (trivial) (lcs (l := q285) mt_J1_hash ⟨by decide, by decide⟩ mok_J1_hash rfl ln_93 (Or.inl q284)) (ihN rfl) rfl ?_
  refine bplain (pc' := 27) rfl dJ1_getNode_26 rfl (ihN rfl) rfl ?_
  refine bplain (pc' := 29) rfl dJ1_getNode_27 rfl (ihN rfl) rfl ?_
  refine bplain (pc' := 30) rfl dJ1_getNode_29 rfl (ihN rfl) rfl ?_
  refine bplain (pc' := 31) rfl dJ1_getNode_30 rfl (ihN rfl) rfl ?_
  refine bplain (pc' := 32) rfl dJ1_getNode_31 rfl (ihN rfl) rfl ?_
  refine bplain (pc' := 33) rfl dJ1_getNode_32 rfl (ihN rfl) rfl ?_
  refine bjmp (tg := 148) (pc' := 36) rfl (by decide) (by decide) rfl dJ1_getNode_33 rfl (ihN rfl) rfl ?_
  refine bplain (pc' := 37) rfl dJ1_getNode_36 rfl (ihN rfl) rfl ?_
  refine bthr (pc' := 40) rfl dJ1_getNode_37 rfl (lkf0 q431 lf_49) (trivial) (ihN rfl) rfl ?_
  refine bplain (pc' := 42) rfl dJ1_getNode_40 rfl (ihN rfl) rfl ?_
  refine bjmp (tg := 71) (pc' := 45) rfl (by decide) (by decide) rfl dJ1_getNode_42 rfl (ihN rfl) rfl ?_
  refine bplain (pc' := 46) rfl dJ1_getNode_45 rfl (ihN rfl) rfl ?_
  refine bthr (pc' := 49) rfl dJ1_getNode_46 rfl (lkf0 q437 lf_55) (trivial) (ihN rfl) rfl ?_
  refine bplain (pc' := 50) rfl dJ1_getNode_49 rfl (ihN rfl) rfl ?_
  refine bplain (pc' := 52) rfl dJ1_getNode_50 rfl (ihN rfl) rfl ?_
  refine bplain (pc' := 53) rfl dJ1_getNode_52 rfl (ihN rfl) rfl ?_
  refine bjmp (tg := 69) (pc' := 56) rfl (by decide) (by decide) rfl dJ1_getNode_53 rfl (ihN rfl) rfl ?_
  refine bplain (pc' := 57) rfl dJ1_getNode_56 rfl (ihN rfl) rfl ?_
  refine bjmp (tg := 71) (pc' := 60) rfl (by decide) (by decide) rfl dJ1_getNode_57 rfl (ihN rfl) rfl ?_
  refine bplain (pc' := 61) rfl dJ1_getNode_60 rfl (ihN rfl) rfl ?_
  refine bplain (pc' := 63) rfl dJ1_getNode_61 rfl (ihN rfl) rfl ?_
  refine bcall (pc' := 66) rfl dJ1_getNode_63 rfl (trivial) (lcv (n := 1) rfl (pvc (lfv mt_J40_equals ⟨by decide, by decide⟩ mok_J40_equals ⟨by decide, by decide⟩ ⟨q752, ln_85, Or.inl ⟨q751, Or.inl q755⟩⟩) (pvc (lfv mt_J40_equals ⟨by decide, by decide⟩ mok_J40_equals ⟨by decide, by decide⟩ ⟨q752, ln_85, Or.inl ⟨q751, Or.inl q765⟩⟩) (pvc (lfv mt_J40_equals ⟨by decide, by decide⟩ mok_J40_equals ⟨by decide, by decide⟩ ⟨q752, ln_85, Or.inl ⟨q751, Or.inl q754⟩⟩) (pvc (lfv mt_J40_equals ⟨by decide, by decide⟩ mok_J40_equals ⟨by decide, by decide⟩ ⟨q752, ln_85, Or.inl ⟨q751, Or.inl q757⟩⟩) (pvc (lfv mt_J40_equals ⟨by decide, by decide⟩ mok_J40_equals ⟨by decide, by decide⟩ ⟨q752, ln_85, Or.inl ⟨q751, Or.inl q764⟩⟩) (pvc (lfv mt_J2_equals ⟨by decide, by decide⟩ mok_J2_equals ⟨by decide, by decide⟩ ⟨q774, ln_85, Or.inr (Or.inr ⟨rfl, ⟨"java/lang/Object", "equals", "(Ljava/lang/Object;)Z"⟩, "java/lang/Object", q751, q753, lv_41, ln_85, q773, Or.inl ⟨_, _, _, q752, q782⟩⟩)⟩) (pvc (lfv mt_J2_equals ⟨by decide, by decide⟩ mok_J2_equals ⟨by decide, by decide⟩ ⟨q774, ln_85, Or.inr (Or.inr ⟨rfl, ⟨"java/lang/Object", "equals", "(Ljava/lang/Object;)Z"⟩, "java/lang/Object", q751, q753, lv_41, ln_85, q773, Or.inl ⟨_, _, _, q752, q782⟩⟩)⟩) (pvc (lfv mt_J40_equals ⟨by decide, by decide⟩ mok_J40_equals ⟨by decide, by decide⟩ ⟨q752, ln_85, Or.inl ⟨q751, Or.inl q756⟩⟩) (pvc (lfv mt_J40_equals ⟨by decide, by decide⟩ mok_J40_equals ⟨by decide, by decide⟩ ⟨q752, ln_85, Or.inl ⟨q751, Or.inl q762⟩⟩) (pvc (lfv mt_X8_equals ⟨by decide, by decide⟩ mok_X8_equals ⟨by decide, by decide⟩ ⟨q759, ln_85, Or.inr (Or.inr ⟨rfl, ⟨"java/lang/Object", "equals", "(Ljava/lang/Object;)Z"⟩, "java/lang/Object", q751, q753, lv_41, ln_85, q758, Or.inl ⟨_, _, _, q752, q782⟩⟩)⟩) (pvc (lfv mt_J40_equals ⟨by decide, by decide⟩ mok_J40_equals ⟨by decide, by decide⟩ ⟨q752, ln_85, Or.inl ⟨q751, Or.inl q763⟩⟩) (pvc (lfv mt_J40_equals ⟨by decide, by decide⟩ mok_J40_equals ⟨by decide, by decide⟩ ⟨q752, ln_85, Or.inl ⟨q751, Or.inl q766⟩⟩) (trivial))))))))))))) (Or.inl (by decide))) (ihN rfl) rfl ?_
  refine bjmp (tg := 71) (pc' := 69) rfl (by decide) (by decide) rfl dJ1_getNode_66 rfl (ihN rfl) rfl ?_
  exact bnop0 rfl (by decide)
theorem bf_J1_getNode_69 : BOKt mt tJ1_getNode 113 69 b_J1_getNode_69 := by
  refine bnop1 ?_
  refine bplain (pc' := 70) rfl dJ1_getNode_69 rfl (ihN rfl) rfl ?_
  refine bret (pc' := 71) rfl dJ1_getNode_70 rfl (⟨_, rfl, Or.inl ⟨_, rfl⟩⟩) (ihN rfl) rfl ?_
  exact trivial
theorem bf_J1_getNode_71 : BOKt mt tJ1_getNode 113 71 b_J1_getNode_71 := by
  refine bnop1 ?_
  refine bplain (pc' := 72) rfl dJ1_getNode_71 rfl (ihN rfl) rfl ?_
  refine bthr (pc' := 75) rfl dJ1_getNode_72 rfl (lkf0 q448 lf_48) (trivial) (ihN rfl) rfl ?_
  refine bplain (pc' := 76) rfl dJ1_getNode_75 rfl (ihN rfl) rfl ?_
  refine bplain (pc' := 78) rfl dJ1_getNode_76 rfl (ihN rfl) rfl ?_
  refine bjmp (tg := 148) (pc' := 81) rfl (by decide) (by decide) rfl dJ1_getNode_78 rfl (ihN rfl) rfl ?_
  refine bplain (pc' := 82) rfl dJ1_getNode_81 rfl (ihN rfl) rfl ?_
  refine bobj (pc' := 85) rfl dJ1_getNode_82 rfl (lkc (nm := "java/util/HashMap$TreeNode") q396 lg_50 lb_51) (ihN rfl) rfl ?_
  refine bjmp (tg := 99) (pc' := 88) rfl (by decide) (by decide) rfl dJ1_getNode_85 rfl (ihN rfl) rfl ?_
  refine bplain (pc' := 89) rfl dJ1_getNode_88 rfl (ihN rfl) rfl ?_
  refine bthr (pc' := 92) rfl dJ1_getNode_89 rfl (lkc (nm := "java/util/HashMap$TreeNode") q396 lg_50 lb_52) (Or.inl rfl) (ihN rfl) rfl ?_
  refine bplain (pc' := 94) rfl dJ1_getNode_92 rfl (ihN rfl) rfl ?_
  refine bplain (pc' := 95) rfl dJ1_getNode_94 rfl (ihN rfl) rfl ?_
  refine bcall (pc' := 98) rfl dJ1_getNode_95 rfl (trivial) (trivial) (ihN rfl) rfl ?_
  refine bret (pc' := 99) rfl dJ1_getNode_98 rfl (⟨_, rfl, Or.inl ⟨_, rfl⟩⟩) (ihN rfl) rfl ?_
  exact trivial
theorem bf_J1_getNode_99 : BOKt mt tJ1_getNode 113 99 b_J1_getNode_99 := by
  refine bnop1 ?_
  refine bplain (pc' := 101) rfl dJ1_getNode_99 rfl (ihN rfl) rfl ?_
  refine bthr (pc' := 104) rfl dJ1_getNode_101 rfl (lkf0 q431 lf_49) (trivial) (ihN rfl) rfl ?_
  refine bplain (pc' := 106) rfl dJ1_getNode_104 rfl (ihN rfl) rfl ?_
  refine bjmp (tg := 137) (pc' := 109) rfl (by decide) (by decide) rfl dJ1_getNode_106 rfl (ihN rfl) rfl ?_
  refine bplain (pc' := 111) rfl dJ1_getNode_109 rfl (ihN rfl) rfl ?_
  refine bthr (pc' := 114) rfl dJ1_getNode_111 rfl (lkf0 q437 lf_55) (trivial) (ihN rfl) rfl ?_
  refine bplain (pc' := 115) rfl dJ1_getNode_114 rfl (ihN rfl) rfl ?_
  refine bplain (pc' := 117) rfl dJ1_getNode_115 rfl (ihN rfl) rfl ?_
  refine bplain (pc' := 118) rfl dJ1_getNode_117 rfl (ihN rfl) rfl ?_
  refine bjmp (tg := 134) (pc' := 121) rfl (by decide) (by decide) rfl dJ1_getNode_118 rfl (ihN rfl) rfl ?_
  refine bplain (pc' := 122) rfl dJ1_getNode_121 rfl (ihN rfl) rfl ?_
  refine bjmp (tg := 137) (pc' := 125) rfl (by decide) (by decide) rfl dJ1_getNode_122 rfl (ihN rfl) rfl ?_
  refine bplain (pc' := 126) rfl dJ1_getNode_125 rfl (ihN rfl) rfl ?_
  refine bplain (pc' := 128) rfl dJ1_getNode_126 rfl (ihN rfl) rfl ?_
  refine bcall (pc' := 131) rfl dJ1_getNode_128 rfl (trivial) (lcv (n := 1) rfl (pvc (lfv mt_J40_equals ⟨by decide, by decide⟩ mok_J40_equals ⟨by decide, by decide⟩ ⟨q752, ln_85, Or.inl ⟨q751, Or.inl q755⟩⟩) (pvc (lfv mt_J40_equals ⟨by decide, by decide⟩ mok_J40_equals ⟨by decide, by decide⟩ ⟨q752, ln_85, Or.inl ⟨q751, Or.inl q765⟩⟩) (pvc (lfv mt_J40_equals ⟨by decide, by decide⟩ mok_J40_equals ⟨by decide, by decide⟩ ⟨q752, ln_85, Or.inl ⟨q751, Or.inl q754⟩⟩) (pvc (lfv mt_J40_equals ⟨by decide, by decide⟩ mok_J40_equals ⟨by decide, by decide⟩ ⟨q752, ln_85, Or.inl ⟨q751, Or.inl q757⟩⟩) (pvc (lfv mt_J40_equals ⟨by decide, by decide⟩ mok_J40_equals ⟨by decide, by decide⟩ ⟨q752, ln_85, Or.inl ⟨q751, Or.inl q764⟩⟩) (pvc (lfv mt_J2_equals ⟨by decide, by decide⟩ mok_J2_equals ⟨by decide, by decide⟩ ⟨q774, ln_85, Or.inr (Or.inr ⟨rfl, ⟨"java/lang/Object", "equals", "(Ljava/lang/Object;)Z"⟩, "java/lang/Object", q751, q753, lv_41, ln_85, q773, Or.inl ⟨_, _, _, q752, q782⟩⟩)⟩) (pvc (lfv mt_J2_equals ⟨by decide, by decide⟩ mok_J2_equals ⟨by decide, by decide⟩ ⟨q774, ln_85, Or.inr (Or.inr ⟨rfl, ⟨"java/lang/Object", "equals", "(Ljava/lang/Object;)Z"⟩, "java/lang/Object", q751, q753, lv_41, ln_85, q773, Or.inl ⟨_, _, _, q752, q782⟩⟩)⟩) (pvc (lfv mt_J40_equals ⟨by decide, by decide⟩ mok_J40_equals ⟨by decide, by decide⟩ ⟨q752, ln_85, Or.inl ⟨q751, Or.inl q756⟩⟩) (pvc (lfv mt_J40_equals ⟨by decide, by decide⟩ mok_J40_equals ⟨by decide, by decide⟩ ⟨q752, ln_85, Or.inl ⟨q751, Or.inl q762⟩⟩) (pvc (lfv mt_X8_equals ⟨by decide, by decide⟩ mok_X8_equals ⟨by decide, by decide⟩ ⟨q759, ln_85, Or.inr (Or.inr ⟨rfl, ⟨"java/lang/Object", "equals", "(Ljava/lang/Object;)Z"⟩, "java/lang/Object", q751, q753, lv_41, ln_85, q758, Or.inl ⟨_, _, _, q752, q782⟩⟩)⟩) (pvc (lfv mt_J40_equals ⟨by decide, by decide⟩ mok_J40_equals ⟨by decide, by decide⟩ ⟨q752, ln_85, Or.inl ⟨q751, Or.inl q763⟩⟩) (pvc (lfv mt_J40_equals ⟨by decide, by decide⟩ mok_J40_equals ⟨by decide, by decide⟩ ⟨q752, ln_85, Or.inl ⟨q751, Or.inl q766⟩⟩) (trivial))))))))))))) (Or.inl (by decide))) (ihN rfl) rfl ?_
  refine bjmp (tg := 137) (pc' := 134) rfl (by decide) (by decide) rfl dJ1_getNode_131 rfl (ihN rfl) rfl ?_
  exact bnop0 rfl (by decide)
theorem bf_J1_getNode_134 : BOKt mt tJ1_getNode 113 134 b_J1_getNode_134 := by
  refine bnop1 ?_
  refine bplain (pc' := 136) rfl dJ1_getNode_134 rfl (ihN rfl) rfl ?_
  refine bret (pc' := 137) rfl dJ1_getNode_136 rfl (⟨_, rfl, Or.inl ⟨_, rfl⟩⟩) (ihN rfl) rfl ?_
  exact trivial
theorem bf_J1_getNode_137 : BOKt mt tJ1_getNode 113 137 b_J1_getNode_137 := by
  refine bnop1 ?_
  refine bplain (pc' := 139) rfl dJ1_getNode_137 rfl (ihN rfl) rfl ?_
  refine bthr (pc' := 142) rfl dJ1_getNode_139 rfl (lkf0 q448 lf_48) (trivial) (ihN rfl) rfl ?_
  refine bplain (pc' := 143) rfl dJ1_getNode_142 rfl (ihN rfl) rfl ?_
  refine bplain (pc' := 145) rfl dJ1_getNode_143 rfl (ihN rfl) rfl ?_
  refine bjmp (tg := 99) (pc' := 148) rfl (by decide) (by decide) rfl dJ1_getNode_145 rfl (ihN rfl) rfl ?_
  exact bnop0 rfl (by decide)
theorem bf_J1_getNode_148 : BOKt mt tJ1_getNode 113 148 b_J1_getNode_148 := by
  refine bnop1 ?_
  refine bplain (pc' := 149) rfl dJ1_getNode_148 rfl (ihN rfl) rfl ?_
  refine bret (pc' := 150) rfl dJ1_getNode_149 rfl (⟨_, rfl, Or.inl ⟨_, rfl⟩⟩) (ihN rfl) rfl ?_
  exact trivial
theorem tf_J1_getNode : ∀ x ∈ tb_J1_getNode, BOK mt 113 x.1 x.2 := tb_c mt_J1_getNode bf_J1_getNode_0 (tb_c mt_J1_getNode bf_J1_getNode_69 (tb_c mt_J1_getNode bf_J1_getNode_71 (tb_c mt_J1_getNode bf_J1_getNode_99 (tb_c mt_J1_getNode bf_J1_getNode_134 (tb_c mt_J1_getNode bf_J1_getNode_137 (tb_c mt_J1_getNode bf_J1_getNode_148 (tb_n)))))))
theorem bf_J1_get_0 : BOKt mt tJ1_get 114 0 b_J1_get_0 := by
  refine bplain (pc' := 1) rfl dJ1_get_0 rfl (ihN rfl) rfl ?_
  refine bplain (pc' := 2) rfl dJ1_get_1 rfl (ihN rfl) rfl ?_
  refine bcall (pc' := 5) rfl dJ1_get_2 rfl (trivial) (lcv (n := 1) rfl (pvc (lfv mt_J1_getNode ⟨by decide, by decide⟩ mok_J1_getNode ⟨by decide, by decide⟩ ⟨q1637, ln_301, Or.inl ⟨q1645, Or.inl q3210⟩⟩) (pvc (lfv mt_J1_getNode ⟨by decide, by decide⟩ mok_J1_getNode ⟨by decide, by decide⟩ ⟨q1637, ln_301, Or.inl ⟨q1645, Or.inl q3211⟩⟩) (trivial))) (Or.inl (by decide))) (ihN rfl) rfl ?_
  refine bplain (pc' := 6) rfl dJ1_get_5 rfl (ihN rfl) rfl ?_
  refine bplain (pc' := 7) rfl dJ1_get_6 rfl (ihN rfl) rfl ?_
  refine bjmp (tg := 14) (pc' := 10) rfl (by decide) (by decide) rfl dJ1_get_7 rfl (ihN rfl) rfl ?_
  refine bplain (pc' := 11) rfl dJ1_get_10 rfl (ihN rfl) rfl ?_
  refine bjmp (tg := 18) (pc' := 14) rfl (by decide) (by decide) rfl dJ1_get_11 rfl (ihN rfl) rfl ?_
  exact trivial
theorem bf_J1_get_14 : BOKt mt tJ1_get 114 14 b_J1_get_14 := by
  refine bplain (pc' := 15) rfl dJ1_get_14 rfl (ihN rfl) rfl ?_
  refine bthr (pc' := 18) rfl dJ1_get_15 rfl (lkf0 q442 lf_57) (trivial) (ihN rfl) rfl ?_
  exact bnop0 rfl (by decide)
theorem bf_J1_get_18 : BOKt mt tJ1_get 114 18 b_J1_get_18 := by
  refine bnop1 ?_
  refine bret (pc' := 19) rfl dJ1_get_18 rfl (⟨_, rfl, Or.inl ⟨_, rfl⟩⟩) (ihN rfl) rfl ?_
  exact trivial
theorem tf_J1_get : ∀ x ∈ tb_J1_get, BOK mt 114 x.1 x.2 := tb_c mt_J1_get bf_J1_get_0 (tb_c mt_J1_get bf_J1_get_14 (tb_c mt_J1_get bf_J1_get_18 (tb_n)))
theorem bf_J34_get_0 : BOKt mt tJ34_get 115 0 b_J34_get_0 := by
  refine bplain (pc' := 1) rfl dJ34_get_0 rfl (ihN rfl) rfl ?_
  refine bplain (pc' := 2) rfl dJ34_get_1 rfl (ihN rfl) rfl ?_
  refine bcall (pc' := 5) rfl dJ34_get_2 rfl (trivial) (lcv (n := 1) rfl (pvc (lfv mt_J1_getNode ⟨by decide, by decide⟩ mok_J1_getNode ⟨by decide, by decide⟩ ⟨q1637, ln_301, Or.inr (Or.inr ⟨rfl, ⟨"java/util/LinkedHashMap", "getNode", "(Ljava/lang/Object;)Ljava/util/HashMap$Node;"⟩, "java/util/HashMap", q1633, q1634, lv_84, ln_301, q1636, Or.inl ⟨_, _, _, q1637, q1638⟩⟩)⟩) (trivial)) (Or.inl (by decide))) (ihN rfl) rfl ?_
  refine bplain (pc' := 6) rfl dJ34_get_5 rfl (ihN rfl) rfl ?_
  refine bplain (pc' := 7) rfl dJ34_get_6 rfl (ihN rfl) rfl ?_
  refine bjmp (tg := 12) (pc' := 10) rfl (by decide) (by decide) rfl dJ34_get_7 rfl (ihN rfl) rfl ?_
  refine bplain (pc' := 11) rfl dJ34_get_10 rfl (ihN rfl) rfl ?_
  refine bret (pc' := 12) rfl dJ34_get_11 rfl (⟨_, rfl, Or.inl ⟨_, rfl⟩⟩) (ihN rfl) rfl ?_
  exact trivial
theorem bf_J34_get_12 : BOKt mt tJ34_get 115 12 b_J34_get_12 := by
  refine bplain (pc' := 13) rfl dJ34_get_12 rfl (ihN rfl) rfl ?_
  refine bthr (pc' := 16) rfl dJ34_get_13 rfl (lkf0 q1992 lf_76) (trivial) (ihN rfl) rfl ?_
  refine bjmp (tg := 24) (pc' := 19) rfl (by decide) (by decide) rfl dJ34_get_16 rfl (ihN rfl) rfl ?_
  refine bplain (pc' := 20) rfl dJ34_get_19 rfl (ihN rfl) rfl ?_
  refine bplain (pc' := 21) rfl dJ34_get_20 rfl (ihN rfl) rfl ?_
  refine bcall (pc' := 24) rfl dJ34_get_21 rfl (trivial) (lcv (n := 1) rfl (pvc (lfv mt_J34_afterNodeAccess ⟨by decide, by decide⟩ mok_J34_afterNodeAccess ⟨by decide, by decide⟩ ⟨q854, ln_87, Or.inl ⟨q1643, Or.inl q3208⟩⟩) (trivial)) (Or.inl (by decide))) (ihN rfl) rfl ?_
  exact bnop0 rfl (by decide)
theorem bf_J34_get_24 : BOKt mt tJ34_get 115 24 b_J34_get_24 := by
  refine bnop1 ?_
  refine bplain (pc' := 25) rfl dJ34_get_24 rfl (ihN rfl) rfl ?_
  refine bthr (pc' := 28) rfl dJ34_get_25 rfl (lkf0 q443 lf_57) (trivial) (ihN rfl) rfl ?_
  refine bret (pc' := 29) rfl dJ34_get_28 rfl (⟨_, rfl, Or.inl ⟨_, rfl⟩⟩) (ihN rfl) rfl ?_
  exact trivial
theorem tf_J34_get : ∀ x ∈ tb_J34_get, BOK mt 115 x.1 x.2 := tb_c mt_J34_get bf_J34_get_0 (tb_c mt_J34_get bf_J34_get_12 (tb_c mt_J34_get bf_J34_get_24 (tb_n)))
theorem bf_X0_named_0 : BOKt mt tX0_named 116 0 b_X0_named_0 := by
  refine bthr (pc' := 3) rfl dX0_named_0 rfl (⟨⟨by decide, by decide, by decide⟩, rfl, q1466, q1467, q175⟩) (trivial) (ihN rfl) rfl ?_
  refine bplain (pc' := 4) rfl dX0_named_3 rfl (ihN rfl) rfl ?_
  refine bplain (pc' := 5) rfl dX0_named_4 rfl (ihN rfl) rfl ?_
  refine bcall (pc' := 8) rfl dX0_named_5 rfl (trivial) (lci mt_J32_init ⟨by decide, by decide⟩ mok_J32_init rfl rfl rfl ln_115 q1469 rfl (Or.inl q1468)) (ihN rfl) rfl ?_
  refine bplain (pc' := 9) rfl dX0_named_8 rfl (ihN rfl) rfl ?_
  refine bplain (pc' := 10) rfl dX0_named_9 rfl (ihN rfl) rfl ?_
  refine bplain (pc' := 11) rfl dX0_named_10 rfl (ihN rfl) rfl ?_
  exact bnop0 rfl (by decide)
theorem bf_X0_named_11 : BOKt mt tX0_named 116 11 b_X0_named_11 := by
  refine bplain (pc' := 12) rfl dX0_named_11 rfl (ihN rfl) rfl ?_
  refine bplain (pc' := 13) rfl dX0_named_12 rfl (ihN rfl) rfl ?_
  refine bthr (pc' := 16) rfl dX0_named_13 rfl (lkf0 q1121 lf_278) (trivial) (ihN rfl) rfl ?_
  refine bjmp (tg := 51) (pc' := 19) rfl (by decide) (by decide) rfl dX0_named_16 rfl (ihN rfl) rfl ?_
  refine bplain (pc' := 20) rfl dX0_named_19 rfl (ihN rfl) rfl ?_
  refine bplain (pc' := 21) rfl dX0_named_20 rfl (ihN rfl) rfl ?_
  refine bthr (pc' := 24) rfl dX0_named_21 rfl (lkf0 q1120 lf_120) (trivial) (ihN rfl) rfl ?_
  refine bplain (pc' := 25) rfl dX0_named_24 rfl (ihN rfl) rfl ?_
  refine bplain (pc' := 26) rfl dX0_named_25 rfl (ihN rfl) rfl ?_
  refine bjmp (tg := 39) (pc' := 29) rfl (by decide) (by decide) rfl dX0_named_26 rfl (ihN rfl) rfl ?_
  refine bplain (pc' := 30) rfl dX0_named_29 rfl (ihN rfl) rfl ?_
  refine bthr (pc' := 33) rfl dX0_named_30 rfl (lkf0 q1120 lf_120) (trivial) (ihN rfl) rfl ?_
  refine bplain (pc' := 34) rfl dX0_named_33 rfl (ihN rfl) rfl ?_
  refine bplain (pc' := 35) rfl dX0_named_34 rfl (ihN rfl) rfl ?_
  refine bplain (pc' := 36) rfl dX0_named_35 rfl (ihN rfl) rfl ?_
  refine bjmp (tg := 41) (pc' := 39) rfl (by decide) (by decide) rfl dX0_named_36 rfl (ihN rfl) rfl ?_
  exact trivial
theorem bf_X0_named_39 : BOKt mt tX0_named 116 39 b_X0_named_39 := by
  refine bplain (pc' := 41) rfl dX0_named_39 rfl (ihN rfl) rfl ?_
  exact bnop0 rfl (by decide)
theorem bf_X0_named_41 : BOKt mt tX0_named 116 41 b_X0_named_41 := by
  refine bcall (pc' := 44) rfl dX0_named_41 rfl (trivial) (lcv (n := 1) rfl (pvc (lfv mt_J32_append ⟨by decide, by decide⟩ mok_J32_append ⟨by decide, by decide⟩ ⟨q1500, ln_302, Or.inl ⟨q1499, Or.inl q1501⟩⟩) (trivial)) (Or.inl (by decide))) (ihN rfl) rfl ?_
  refine bplain (pc' := 45) rfl dX0_named_44 rfl (ihN rfl) rfl ?_
  refine bplain (pc' := 48) rfl dX0_named_45 rfl (ihN rfl) rfl ?_
  refine bjmp (tg := 11) (pc' := 51) rfl (by decide) (by decide) rfl dX0_named_48 rfl (ihN rfl) rfl ?_
  exact trivial
theorem bf_X0_named_51 : BOKt mt tX0_named 116 51 b_X0_named_51 := by
  refine bplain (pc' := 52) rfl dX0_named_51 rfl (ihN rfl) rfl ?_
  refine bthr (pc' := 55) rfl dX0_named_52 rfl (lkf0 q1111 lf_111) (trivial) (ihN rfl) rfl ?_
  refine bplain (pc' := 56) rfl dX0_named_55 rfl (ihN rfl) rfl ?_
  refine bcall (pc' := 59) rfl dX0_named_56 rfl (trivial) (lcv (n := 0) rfl (pvc (lfv mt_J32_toString ⟨by decide, by decide⟩ mok_J32_toString ⟨by decide, by decide⟩ ⟨q1573, ln_303, Or.inl ⟨q1572, Or.inl q1574⟩⟩) (trivial)) (Or.inl (by decide))) (ihN rfl) rfl ?_
  refine bcall (pc' := 62) rfl dX0_named_59 rfl (trivial) (lcv (n := 1) rfl (pvc (lfv mt_J1_get ⟨by decide, by decide⟩ mok_J1_get ⟨by decide, by decide⟩ ⟨q1627, ln_304, Or.inl ⟨q1626, Or.inl q1628⟩⟩) (pvc (lfv mt_J34_get ⟨by decide, by decide⟩ mok_J34_get ⟨by decide, by decide⟩ ⟨q1631, ln_304, Or.inr (Or.inr ⟨rfl, ⟨"java/util/HashMap", "get", "(Ljava/lang/Object;)Ljava/lang/Object;"⟩, "java/util/HashMap", q1626, q1629, lv_84, ln_304, q1630, Or.inl ⟨_, _, _, q1627, q1644⟩⟩)⟩) (trivial))) (Or.inl (by decide))) (ihN rfl) rfl ?_
  refine bthr (pc' := 65) rfl dX0_named_62 rfl (lkc (nm := "StrideTurns$Deed") q1646 lg_305 lb_306) (Or.inl rfl) (ihN rfl) rfl ?_
  refine bret (pc' := 66) rfl dX0_named_65 rfl (⟨_, rfl, Or.inl ⟨_, rfl⟩⟩) (ihN rfl) rfl ?_
  exact trivial
theorem tf_X0_named : ∀ x ∈ tb_X0_named, BOK mt 116 x.1 x.2 := tb_c mt_X0_named bf_X0_named_0 (tb_c mt_X0_named bf_X0_named_11 (tb_c mt_X0_named bf_X0_named_39 (tb_c mt_X0_named bf_X0_named_41 (tb_c mt_X0_named bf_X0_named_51 (tb_n)))))
theorem bf_J20_size_0 : BOKt mt tJ20_size 117 0 b_J20_size_0 := by
  refine bplain (pc' := 1) rfl dJ20_size_0 rfl (ihN rfl) rfl ?_
  refine bthr (pc' := 4) rfl dJ20_size_1 rfl (lkf0 q1043 lf_307) (trivial) (ihN rfl) rfl ?_
  refine bret (pc' := 5) rfl dJ20_size_4 rfl (Or.inl ⟨rfl, rfl⟩) (ihN rfl) rfl ?_
  exact trivial
theorem tf_J20_size : ∀ x ∈ tb_J20_size, BOK mt 117 x.1 x.2 := tb_c mt_J20_size bf_J20_size_0 (tb_n)
theorem bf_X7_init_0 : BOKt mt tX7_init 118 0 b_X7_init_0 := by
  refine bplain (pc' := 1) rfl dX7_init_0 rfl (ihN rfl) rfl ?_
  refine bcall (pc' := 4) rfl dX7_init_1 rfl (trivial) (lco rfl ⟨q1663, q193, q194⟩) (ihN rfl) rfl ?_
  refine bplain (pc' := 5) rfl dX7_init_4 rfl (ihN rfl) rfl ?_
  refine bcall (pc' := 10) rfl dX7_init_5 rfl (trivial) (⟨31, ⟨⟨by decide, by decide⟩, rfl, rfl, rfl⟩, rfl, rfl, by decide⟩) (ihN rfl) rfl ?_
  refine bobj (pc' := 13) rfl dX7_init_10 rfl (⟨lkf0 q1677 lf_308, lkp0 lp_309⟩) (ihN rfl) rfl ?_
  refine bplain (pc' := 14) rfl dX7_init_13 rfl (ihN rfl) rfl ?_
  refine bplain (pc' := 15) rfl dX7_init_14 rfl (ihN rfl) rfl ?_
  refine bobj (pc' := 18) rfl dX7_init_15 rfl (⟨lkf0 q1666 lf_310, lkp0 lp_311⟩) (ihN rfl) rfl ?_
  refine bret (pc' := 19) rfl dX7_init_18 rfl (rfl) (ihN rfl) rfl ?_
  exact trivial
theorem tf_X7_init : ∀ x ∈ tb_X7_init, BOK mt 118 x.1 x.2 := tb_c mt_X7_init bf_X7_init_0 (tb_n)
theorem bf_X6_init_0 : BOKt mt tX6_init 119 0 b_X6_init_0 := by
  refine bplain (pc' := 1) rfl dX6_init_0 rfl (ihN rfl) rfl ?_
  refine bplain (pc' := 2) rfl dX6_init_1 rfl (ihN rfl) rfl ?_
  refine bobj (pc' := 5) rfl dX6_init_2 rfl (⟨lkf0 q1708 lf_312, lkp1 rfl lp_313⟩) (ihN rfl) rfl ?_
  refine bplain (pc' := 6) rfl dX6_init_5 rfl (ihN rfl) rfl ?_
  refine bcall (pc' := 9) rfl dX6_init_6 rfl (trivial) (lco rfl ⟨q1656, q193, q194⟩) (ihN rfl) rfl ?_
  refine bplain (pc' := 10) rfl dX6_init_9 rfl (ihN rfl) rfl ?_
  refine bplain (pc' := 11) rfl dX6_init_10 rfl (ihN rfl) rfl ?_
  refine bobj (pc' := 14) rfl dX6_init_11 rfl (⟨"StrideTurns$Reference", by decide, rfl, q1657, q1658⟩) (ihN rfl) rfl ?_
  refine bplain (pc' := 15) rfl dX6_init_14 rfl (ihN rfl) rfl ?_
  refine bplain (pc' := 16) rfl dX6_init_15 rfl (ihN rfl) rfl ?_
  refine bthr (pc' := 19) rfl dX6_init_16 rfl (⟨⟨by decide, by decide, by decide⟩, rfl, q1657, q1659, q177⟩) (trivial) (ihN rfl) rfl ?_
  refine bplain (pc' := 20) rfl dX6_init_19 rfl (ihN rfl) rfl ?_
  refine bplain (pc' := 21) rfl dX6_init_20 rfl (ihN rfl) rfl ?_
  refine bcall (pc' := 24) rfl dX6_init_21 rfl (trivial) (lci mt_X7_init ⟨by decide, by decide⟩ mok_X7_init rfl rfl rfl ln_115 q1661 rfl (Or.inl q1660)) (ihN rfl) rfl ?_
  refine bplain (pc' := 25) rfl dX6_init_24 rfl (ihN rfl) rfl ?_
  refine bplain (pc' := 26) rfl dX6_init_25 rfl (ihN rfl) rfl ?_
  refine bplain (pc' := 27) rfl dX6_init_26 rfl (ihN rfl) rfl ?_
  refine bthr (pc' := 30) rfl dX6_init_27 rfl (⟨⟨by decide, by decide, by decide⟩, rfl, q1657, q1659, q177⟩) (trivial) (ihN rfl) rfl ?_
  refine bplain (pc' := 31) rfl dX6_init_30 rfl (ihN rfl) rfl ?_
  refine bplain (pc' := 32) rfl dX6_init_31 rfl (ihN rfl) rfl ?_
  refine bcall (pc' := 35) rfl dX6_init_32 rfl (trivial) (lci mt_X7_init ⟨by decide, by decide⟩ mok_X7_init rfl rfl rfl ln_115 q1661 rfl (Or.inl q1660)) (ihN rfl) rfl ?_
  refine bplain (pc' := 36) rfl dX6_init_35 rfl (ihN rfl) rfl ?_
  refine bplain (pc' := 37) rfl dX6_init_36 rfl (ihN rfl) rfl ?_
  refine bplain (pc' := 38) rfl dX6_init_37 rfl (ihN rfl) rfl ?_
  refine bthr (pc' := 41) rfl dX6_init_38 rfl (⟨⟨by decide, by decide, by decide⟩, rfl, q1657, q1659, q177⟩) (trivial) (ihN rfl) rfl ?_
  refine bplain (pc' := 42) rfl dX6_init_41 rfl (ihN rfl) rfl ?_
  refine bplain (pc' := 43) rfl dX6_init_42 rfl (ihN rfl) rfl ?_
  refine bcall (pc' := 46) rfl dX6_init_43 rfl (trivial) (lci mt_X7_init ⟨by decide, by decide⟩ mok_X7_init rfl rfl rfl ln_115 q1661 rfl (Or.inl q1660)) (ihN rfl) rfl ?_
  refine bplain (pc' := 47) rfl dX6_init_46 rfl (ihN rfl) rfl ?_
  refine bobj (pc' := 50) rfl dX6_init_47 rfl (⟨lkf0 q1700 lf_314, lkp1 rfl lp_315⟩) (ihN rfl) rfl ?_
  refine bplain (pc' := 51) rfl dX6_init_50 rfl (ihN rfl) rfl ?_
  refine bplain (pc' := 52) rfl dX6_init_51 rfl (ihN rfl) rfl ?_
  refine bobj (pc' := 55) rfl dX6_init_52 rfl (⟨lkf0 q1701 lf_316, lkp0 lp_317⟩) (ihN rfl) rfl ?_
  refine bplain (pc' := 56) rfl dX6_init_55 rfl (ihN rfl) rfl ?_
  refine bplain (pc' := 57) rfl dX6_init_56 rfl (ihN rfl) rfl ?_
  refine bobj (pc' := 60) rfl dX6_init_57 rfl (⟨lkf0 q1705 lf_318, lkp0 lp_319⟩) (ihN rfl) rfl ?_
  refine bplain (pc' := 61) rfl dX6_init_60 rfl (ihN rfl) rfl ?_
  refine bcall (pc' := 66) rfl dX6_init_61 rfl (trivial) (⟨32, ⟨⟨by decide, by decide⟩, rfl, rfl, rfl⟩, rfl, rfl, by decide⟩) (ihN rfl) rfl ?_
  refine bobj (pc' := 69) rfl dX6_init_66 rfl (⟨lkf0 q1707 lf_320, lkp0 lp_321⟩) (ihN rfl) rfl ?_
  refine bplain (pc' := 70) rfl dX6_init_69 rfl (ihN rfl) rfl ?_
  refine bplain (pc' := 71) rfl dX6_init_70 rfl (ihN rfl) rfl ?_
  refine bobj (pc' := 74) rfl dX6_init_71 rfl (⟨lkf0 q1694 lf_322, lkp1 rfl lp_323⟩) (ihN rfl) rfl ?_
  refine bplain (pc' := 75) rfl dX6_init_74 rfl (ihN rfl) rfl ?_
  refine bplain (pc' := 76) rfl dX6_init_75 rfl (ihN rfl) rfl ?_
  refine bobj (pc' := 79) rfl dX6_init_76 rfl (⟨lkf0 q1697 lf_324, lkp1 rfl lp_325⟩) (ihN rfl) rfl ?_
  refine bret (pc' := 80) rfl dX6_init_79 rfl (rfl) (ihN rfl) rfl ?_
  exact trivial
theorem tf_X6_init : ∀ x ∈ tb_X6_init, BOK mt 119 x.1 x.2 := tb_c mt_X6_init bf_X6_init_0 (tb_n)
theorem bf_J20_grow_2_0 : BOKt mt tJ20_grow_2 120 0 b_J20_grow_2_0 := by
  refine bplain (pc' := 1) rfl dJ20_grow_2_0 rfl (ihN rfl) rfl ?_
  refine bthr (pc' := 4) rfl dJ20_grow_2_1 rfl (lkf0 q1040 lf_100) (trivial) (ihN rfl) rfl ?_
  refine bplain (pc' := 5) rfl dJ20_grow_2_4 rfl (ihN rfl) rfl ?_
  refine bplain (pc' := 6) rfl dJ20_grow_2_5 rfl (ihN rfl) rfl ?_
  refine bplain (pc' := 7) rfl dJ20_grow_2_6 rfl (ihN rfl) rfl ?_
  refine bjmp (tg := 20) (pc' := 10) rfl (by decide) (by decide) rfl dJ20_grow_2_7 rfl (ihN rfl) rfl ?_
  refine bplain (pc' := 11) rfl dJ20_grow_2_10 rfl (ihN rfl) rfl ?_
  refine bthr (pc' := 14) rfl dJ20_grow_2_11 rfl (lkf0 q1040 lf_100) (trivial) (ihN rfl) rfl ?_
  refine bobj (pc' := 17) rfl dJ20_grow_2_14 rfl (lkg2 (j := 1) (by decide) q1742 rfl) (ihN rfl) rfl ?_
  refine bjmp (tg := 45) (pc' := 20) rfl (by decide) (by decide) rfl dJ20_grow_2_17 rfl (ihN rfl) rfl ?_
  exact bnop0 rfl (by decide)
theorem bf_J20_grow_2_20 : BOKt mt tJ20_grow_2 120 20 b_J20_grow_2_20 := by
  refine bnop1 ?_
  refine bplain (pc' := 21) rfl dJ20_grow_2_20 rfl (ihN rfl) rfl ?_
  refine bplain (pc' := 22) rfl dJ20_grow_2_21 rfl (ihN rfl) rfl ?_
  refine bplain (pc' := 23) rfl dJ20_grow_2_22 rfl (ihN rfl) rfl ?_
  refine bplain (pc' := 24) rfl dJ20_grow_2_23 rfl (ihN rfl) rfl ?_
  refine bplain (pc' := 25) rfl dJ20_grow_2_24 rfl (ihN rfl) rfl ?_
  refine bplain (pc' := 26) rfl dJ20_grow_2_25 rfl (ihN rfl) rfl ?_
  refine bplain (pc' := 27) rfl dJ20_grow_2_26 rfl (ihN rfl) rfl ?_
  refine bcall (pc' := 30) rfl dJ20_grow_2_27 rfl (trivial) (lcs (l := q1515) mt_J4_newLength ⟨by decide, by decide⟩ mok_J4_newLength rfl ln_255 (Or.inl q1744)) (ihN rfl) rfl ?_
  refine bplain (pc' := 31) rfl dJ20_grow_2_30 rfl (ihN rfl) rfl ?_
  refine bplain (pc' := 32) rfl dJ20_grow_2_31 rfl (ihN rfl) rfl ?_
  refine bplain (pc' := 33) rfl dJ20_grow_2_32 rfl (ihN rfl) rfl ?_
  refine bthr (pc' := 36) rfl dJ20_grow_2_33 rfl (lkf0 q1040 lf_100) (trivial) (ihN rfl) rfl ?_
  refine bplain (pc' := 37) rfl dJ20_grow_2_36 rfl (ihN rfl) rfl ?_
  refine bcall (pc' := 40) rfl dJ20_grow_2_37 rfl (trivial) (lcs (l := q1438) mt_J30_copyOf ⟨by decide, by decide⟩ mok_J30_copyOf rfl ln_264 (Or.inl q1745)) (ihN rfl) rfl ?_
  refine bplain (pc' := 41) rfl dJ20_grow_2_40 rfl (ihN rfl) rfl ?_
  refine bobj (pc' := 44) rfl dJ20_grow_2_41 rfl (⟨lkf0 q1040 lf_100, lkp0 lp_101⟩) (ihN rfl) rfl ?_
  refine bret (pc' := 45) rfl dJ20_grow_2_44 rfl (⟨_, rfl, Or.inr ⟨_, rfl⟩⟩) (ihN rfl) rfl ?_
  exact trivial
theorem bf_J20_grow_2_45 : BOKt mt tJ20_grow_2 120 45 b_J20_grow_2_45 := by
  refine bplain (pc' := 46) rfl dJ20_grow_2_45 rfl (ihN rfl) rfl ?_
  refine bplain (pc' := 48) rfl dJ20_grow_2_46 rfl (ihN rfl) rfl ?_
  refine bplain (pc' := 49) rfl dJ20_grow_2_48 rfl (ihN rfl) rfl ?_
  refine bcall (pc' := 52) rfl dJ20_grow_2_49 rfl (trivial) (lcs (l := q1518) mt_J8_max ⟨by decide, by decide⟩ mok_J8_max rfl ln_252 (Or.inl q1746)) (ihN rfl) rfl ?_
  refine bobj (pc' := 55) rfl dJ20_grow_2_52 rfl (⟨"java/lang/Object", by decide, rfl, q1036, q1037⟩) (ihN rfl) rfl ?_
  refine bplain (pc' := 56) rfl dJ20_grow_2_55 rfl (ihN rfl) rfl ?_
  refine bobj (pc' := 59) rfl dJ20_grow_2_56 rfl (⟨lkf0 q1040 lf_100, lkp0 lp_101⟩) (ihN rfl) rfl ?_
  refine bret (pc' := 60) rfl dJ20_grow_2_59 rfl (⟨_, rfl, Or.inr ⟨_, rfl⟩⟩) (ihN rfl) rfl ?_
  exact trivial
theorem tf_J20_grow_2 : ∀ x ∈ tb_J20_grow_2, BOK mt 120 x.1 x.2 := tb_c mt_J20_grow_2 bf_J20_grow_2_0 (tb_c mt_J20_grow_2 bf_J20_grow_2_20 (tb_c mt_J20_grow_2 bf_J20_grow_2_45 (tb_n)))
theorem bf_J20_grow_0 : BOKt mt tJ20_grow 121 0 b_J20_grow_0 := by
  refine bplain (pc' := 1) rfl dJ20_grow_0 rfl (ihN rfl) rfl ?_
  refine bplain (pc' := 2) rfl dJ20_grow_1 rfl (ihN rfl) rfl ?_
  refine bthr (pc' := 5) rfl dJ20_grow_2 rfl (lkf0 q1043 lf_307) (trivial) (ihN rfl) rfl ?_
  refine bplain (pc' := 6) rfl dJ20_grow_5 rfl (ihN rfl) rfl ?_
  refine bplain (pc' := 7) rfl dJ20_grow_6 rfl (ihN rfl) rfl ?_
  refine bcall (pc' := 10) rfl dJ20_grow_7 rfl (trivial) (lcv (n := 1) rfl (pvc (lfv mt_J20_grow_2 ⟨by decide, by decide⟩ mok_J20_grow_2 ⟨by decide, by decide⟩ ⟨q1740, ln_326, Or.inl ⟨q1738, Or.inl qs12⟩⟩) (trivial)) (Or.inl (by decide))) (ihN rfl) rfl ?_
  refine bret (pc' := 11) rfl dJ20_grow_10 rfl (⟨_, rfl, Or.inr ⟨_, rfl⟩⟩) (ihN rfl) rfl ?_
  exact trivial
theorem tf_J20_grow : ∀ x ∈ tb_J20_grow, BOK mt 121 x.1 x.2 := tb_c mt_J20_grow bf_J20_grow_0 (tb_n)
theorem bf_J20_add_2_0 : BOKt mt tJ20_add_2 122 0 b_J20_add_2_0 := by
  refine bplain (pc' := 1) rfl dJ20_add_2_0 rfl (ihN rfl) rfl ?_
  refine bplain (pc' := 2) rfl dJ20_add_2_1 rfl (ihN rfl) rfl ?_
  refine bplain (pc' := 3) rfl dJ20_add_2_2 rfl (ihN rfl) rfl ?_
  refine bjmp (tg := 11) (pc' := 6) rfl (by decide) (by decide) rfl dJ20_add_2_3 rfl (ihN rfl) rfl ?_
  refine bplain (pc' := 7) rfl dJ20_add_2_6 rfl (ihN rfl) rfl ?_
  refine bcall (pc' := 10) rfl dJ20_add_2_7 rfl (trivial) (lcv (n := 0) rfl (pvc (lfv mt_J20_grow ⟨by decide, by decide⟩ mok_J20_grow ⟨by decide, by decide⟩ ⟨q1736, ln_327, Or.inl ⟨q1734, Or.inl qs11⟩⟩) (trivial)) (Or.inl (by decide))) (ihN rfl) rfl ?_
  refine bplain (pc' := 11) rfl dJ20_add_2_10 rfl (ihN rfl) rfl ?_
  exact bnop0 rfl (by decide)
theorem bf_J20_add_2_11 : BOKt mt tJ20_add_2 122 11 b_J20_add_2_11 := by
  refine bplain (pc' := 12) rfl dJ20_add_2_11 rfl (ihN rfl) rfl ?_
  refine bplain (pc' := 13) rfl dJ20_add_2_12 rfl (ihN rfl) rfl ?_
  refine bplain (pc' := 14) rfl dJ20_add_2_13 rfl (ihN rfl) rfl ?_
  refine bplain (pc' := 15) rfl dJ20_add_2_14 rfl (ihN rfl) rfl ?_
  refine bplain (pc' := 16) rfl dJ20_add_2_15 rfl (ihN rfl) rfl ?_
  refine bplain (pc' := 17) rfl dJ20_add_2_16 rfl (ihN rfl) rfl ?_
  refine bplain (pc' := 18) rfl dJ20_add_2_17 rfl (ihN rfl) rfl ?_
  refine bplain (pc' := 19) rfl dJ20_add_2_18 rfl (ihN rfl) rfl ?_
  refine bobj (pc' := 22) rfl dJ20_add_2_19 rfl (⟨lkf0 q1043 lf_307, lkp0 lp_328⟩) (ihN rfl) rfl ?_
  refine bret (pc' := 23) rfl dJ20_add_2_22 rfl (rfl) (ihN rfl) rfl ?_
  exact trivial
theorem tf_J20_add_2 : ∀ x ∈ tb_J20_add_2, BOK mt 122 x.1 x.2 := tb_c mt_J20_add_2 bf_J20_add_2_0 (tb_c mt_J20_add_2 bf_J20_add_2_11 (tb_n))
theorem bf_J20_add_0 : BOKt mt tJ20_add 123 0 b_J20_add_0 := by
  refine bplain (pc' := 1) rfl dJ20_add_0 rfl (ihN rfl) rfl ?_
  refine bplain (pc' := 2) rfl dJ20_add_1 rfl (ihN rfl) rfl ?_
  refine bthr (pc' := 5) rfl dJ20_add_2 rfl (lkf0 q1047 lf_329) (trivial) (ihN rfl) rfl ?_
  refine bplain (pc' := 6) rfl dJ20_add_5 rfl (ihN rfl) rfl ?_
  refine bplain (pc' := 7) rfl dJ20_add_6 rfl (ihN rfl) rfl ?_
  refine bobj (pc' := 10) rfl dJ20_add_7 rfl (⟨lkf0 q1047 lf_329, lkp0 lp_99⟩) (ihN rfl) rfl ?_
  refine bplain (pc' := 11) rfl dJ20_add_10 rfl (ihN rfl) rfl ?_
  refine bplain (pc' := 12) rfl dJ20_add_11 rfl (ihN rfl) rfl ?_
  refine bplain (pc' := 13) rfl dJ20_add_12 rfl (ihN rfl) rfl ?_
  refine bthr (pc' := 16) rfl dJ20_add_13 rfl (lkf0 q1040 lf_100) (trivial) (ihN rfl) rfl ?_
  refine bplain (pc' := 17) rfl dJ20_add_16 rfl (ihN rfl) rfl ?_
  refine bthr (pc' := 20) rfl dJ20_add_17 rfl (lkf0 q1043 lf_307) (trivial) (ihN rfl) rfl ?_
  refine bcall (pc' := 23) rfl dJ20_add_20 rfl (trivial) (lcv (n := 3) rfl (pvc (lfv mt_J20_add_2 ⟨by decide, by decide⟩ mok_J20_add_2 ⟨by decide, by decide⟩ ⟨q1732, ln_330, Or.inl ⟨q1730, Or.inl qs10⟩⟩) (trivial)) (Or.inl (by decide))) (ihN rfl) rfl ?_
  refine bplain (pc' := 24) rfl dJ20_add_23 rfl (ihN rfl) rfl ?_
  refine bret (pc' := 25) rfl dJ20_add_24 rfl (Or.inr ⟨rfl, rfl⟩) (ihN rfl) rfl ?_
  exact trivial
theorem tf_J20_add : ∀ x ∈ tb_J20_add, BOK mt 123 x.1 x.2 := tb_c mt_J20_add bf_J20_add_0 (tb_n)
theorem bf_X0_statement_0 : BOKt mt tX0_statement 124 0 b_X0_statement_0 := by
  refine bplain (pc' := 1) rfl dX0_statement_0 rfl (ihN rfl) rfl ?_
  refine bplain (pc' := 2) rfl dX0_statement_1 rfl (ihN rfl) rfl ?_
  refine bplain (pc' := 3) rfl dX0_statement_2 rfl (ihN rfl) rfl ?_
  refine bobj (pc' := 6) rfl dX0_statement_3 rfl (lkq0 lc_209 q1212) (ihN rfl) rfl ?_
  refine bcall (pc' := 9) rfl dX0_statement_6 rfl (trivial) (lcs (l := q1214) mt_X0_in ⟨by decide, by decide⟩ mok_X0_in rfl ln_210 (Or.inl q1213)) (ihN rfl) rfl ?_
  refine bjmp (tg := 15) (pc' := 12) rfl (by decide) (by decide) rfl dX0_statement_9 rfl (ihN rfl) rfl ?_
  refine bplain (pc' := 14) rfl dX0_statement_12 rfl (ihN rfl) rfl ?_
  refine bret (pc' := 15) rfl dX0_statement_14 rfl (Or.inl ⟨rfl, rfl⟩) (ihN rfl) rfl ?_
  exact trivial
theorem bf_X0_statement_15 : BOKt mt tX0_statement 124 15 b_X0_statement_15 := by
  refine bplain (pc' := 16) rfl dX0_statement_15 rfl (ihN rfl) rfl ?_
  refine bcall (pc' := 19) rfl dX0_statement_16 rfl (trivial) (lcv (n := 0) rfl (pvc (lfv mt_X0_named ⟨by decide, by decide⟩ mok_X0_named ⟨by decide, by decide⟩ ⟨q1464, ln_331, Or.inl ⟨q1462, Or.inl qs9⟩⟩) (trivial)) (Or.inl (by decide))) (ihN rfl) rfl ?_
  refine bplain (pc' := 20) rfl dX0_statement_19 rfl (ihN rfl) rfl ?_
  refine bplain (pc' := 21) rfl dX0_statement_20 rfl (ihN rfl) rfl ?_
  refine bjmp (tg := 27) (pc' := 24) rfl (by decide) (by decide) rfl dX0_statement_21 rfl (ihN rfl) rfl ?_
  refine bplain (pc' := 26) rfl dX0_statement_24 rfl (ihN rfl) rfl ?_
  refine bret (pc' := 27) rfl dX0_statement_26 rfl (Or.inl ⟨rfl, rfl⟩) (ihN rfl) rfl ?_
  exact trivial
theorem bf_X0_statement_27 : BOKt mt tX0_statement 124 27 b_X0_statement_27 := by
  refine bplain (pc' := 28) rfl dX0_statement_27 rfl (ihN rfl) rfl ?_
  refine bthr (pc' := 31) rfl dX0_statement_28 rfl (lkf0 q1115 lf_116) (trivial) (ihN rfl) rfl ?_
  refine bcall (pc' := 34) rfl dX0_statement_31 rfl (trivial) (lcv (n := 0) rfl (pvc (lfv mt_J20_size ⟨by decide, by decide⟩ mok_J20_size ⟨by decide, by decide⟩ ⟨q1648, ln_40, Or.inl ⟨q1647, Or.inl q1649⟩⟩) (trivial)) (Or.inl (by decide))) (ihN rfl) rfl ?_
  refine bplain (pc' := 35) rfl dX0_statement_34 rfl (ihN rfl) rfl ?_
  refine bjmp (tg := 41) (pc' := 38) rfl (by decide) (by decide) rfl dX0_statement_35 rfl (ihN rfl) rfl ?_
  refine bplain (pc' := 40) rfl dX0_statement_38 rfl (ihN rfl) rfl ?_
  refine bret (pc' := 41) rfl dX0_statement_40 rfl (Or.inl ⟨rfl, rfl⟩) (ihN rfl) rfl ?_
  exact trivial
theorem bf_X0_statement_41 : BOKt mt tX0_statement 124 41 b_X0_statement_41 := by
  refine bplain (pc' := 42) rfl dX0_statement_41 rfl (ihN rfl) rfl ?_
  refine bthr (pc' := 45) rfl dX0_statement_42 rfl (lkf0 q1115 lf_116) (trivial) (ihN rfl) rfl ?_
  refine bthr (pc' := 48) rfl dX0_statement_45 rfl (⟨⟨by decide, by decide, by decide⟩, rfl, q1651, q1652, q176⟩) (trivial) (ihN rfl) rfl ?_
  refine bplain (pc' := 49) rfl dX0_statement_48 rfl (ihN rfl) rfl ?_
  refine bplain (pc' := 50) rfl dX0_statement_49 rfl (ihN rfl) rfl ?_
  refine bplain (pc' := 51) rfl dX0_statement_50 rfl (ihN rfl) rfl ?_
  refine bplain (pc' := 52) rfl dX0_statement_51 rfl (ihN rfl) rfl ?_
  refine bcall (pc' := 55) rfl dX0_statement_52 rfl (trivial) (lci mt_X6_init ⟨by decide, by decide⟩ mok_X6_init rfl rfl rfl ln_332 q1654 rfl (Or.inl q1653)) (ihN rfl) rfl ?_
  refine bcall (pc' := 58) rfl dX0_statement_55 rfl (trivial) (lcv (n := 1) rfl (pvc (lfv mt_J20_add ⟨by decide, by decide⟩ mok_J20_add ⟨by decide, by decide⟩ ⟨q1727, ln_85, Or.inl ⟨q1726, Or.inl q1728⟩⟩) (trivial)) (Or.inl (by decide))) (ihN rfl) rfl ?_
  refine bplain (pc' := 59) rfl dX0_statement_58 rfl (ihN rfl) rfl ?_
  refine bplain (pc' := 60) rfl dX0_statement_59 rfl (ihN rfl) rfl ?_
  refine bplain (pc' := 61) rfl dX0_statement_60 rfl (ihN rfl) rfl ?_
  refine bobj (pc' := 64) rfl dX0_statement_61 rfl (⟨lkf0 q1121 lf_278, lkp0 lp_279⟩) (ihN rfl) rfl ?_
  refine bplain (pc' := 65) rfl dX0_statement_64 rfl (ihN rfl) rfl ?_
  refine bplain (pc' := 66) rfl dX0_statement_65 rfl (ihN rfl) rfl ?_
  refine bcall (pc' := 71) rfl dX0_statement_66 rfl (trivial) (⟨33, rfl, ⟨⟨by decide, by decide⟩, rfl, rfl, rfl⟩, (fun h => nomatch h), rfl, rfl, capl_of (by rfl)⟩) (ihN rfl) rfl ?_
  refine bcall (pc' := 74) rfl dX0_statement_71 rfl (trivial) (lcv (n := 1) rfl (pvc (lfv mt_X0_tells ⟨by decide, by decide⟩ mok_X0_tells ⟨by decide, by decide⟩ ⟨q1391, ln_267, Or.inl ⟨q1389, Or.inl qs6⟩⟩) (trivial)) (Or.inl (by decide))) (ihN rfl) rfl ?_
  refine bplain (pc' := 75) rfl dX0_statement_74 rfl (ihN rfl) rfl ?_
  refine bthr (pc' := 78) rfl dX0_statement_75 rfl (lkf0 q1115 lf_116) (trivial) (ihN rfl) rfl ?_
  refine bcall (pc' := 81) rfl dX0_statement_78 rfl (trivial) (lcv (n := 0) rfl (pvc (lfv mt_J20_size ⟨by decide, by decide⟩ mok_J20_size ⟨by decide, by decide⟩ ⟨q1648, ln_40, Or.inl ⟨q1647, Or.inl q1649⟩⟩) (trivial)) (Or.inl (by decide))) (ihN rfl) rfl ?_
  refine bplain (pc' := 82) rfl dX0_statement_81 rfl (ihN rfl) rfl ?_
  refine bplain (pc' := 83) rfl dX0_statement_82 rfl (ihN rfl) rfl ?_
  refine bret (pc' := 84) rfl dX0_statement_83 rfl (Or.inl ⟨rfl, rfl⟩) (ihN rfl) rfl ?_
  exact trivial
theorem tf_X0_statement : ∀ x ∈ tb_X0_statement, BOK mt 124 x.1 x.2 := tb_c mt_X0_statement bf_X0_statement_0 (tb_c mt_X0_statement bf_X0_statement_15 (tb_c mt_X0_statement bf_X0_statement_27 (tb_c mt_X0_statement bf_X0_statement_41 (tb_n))))
theorem bf_X3_isTyped_0 : BOKt mt tX3_isTyped 125 0 b_X3_isTyped_0 := by
  refine bplain (pc' := 2) rfl dX3_isTyped_0 rfl (ihN rfl) rfl ?_
  refine bjmp (tg := 9) (pc' := 5) rfl (by decide) (by decide) rfl dX3_isTyped_2 rfl (ihN rfl) rfl ?_
  refine bplain (pc' := 6) rfl dX3_isTyped_5 rfl (ihN rfl) rfl ?_
  refine bjmp (tg := 27) (pc' := 9) rfl (by decide) (by decide) rfl dX3_isTyped_6 rfl (ihN rfl) rfl ?_
  exact trivial
theorem bf_X3_isTyped_9 : BOKt mt tX3_isTyped 125 9 b_X3_isTyped_9 := by
  refine bplain (pc' := 11) rfl dX3_isTyped_9 rfl (ihN rfl) rfl ?_
  refine bjmp (tg := 18) (pc' := 14) rfl (by decide) (by decide) rfl dX3_isTyped_11 rfl (ihN rfl) rfl ?_
  refine bplain (pc' := 15) rfl dX3_isTyped_14 rfl (ihN rfl) rfl ?_
  refine bjmp (tg := 27) (pc' := 18) rfl (by decide) (by decide) rfl dX3_isTyped_15 rfl (ihN rfl) rfl ?_
  exact trivial
theorem bf_X3_isTyped_18 : BOKt mt tX3_isTyped 125 18 b_X3_isTyped_18 := by
  refine bplain (pc' := 19) rfl dX3_isTyped_18 rfl (ihN rfl) rfl ?_
  refine bjmp (tg := 26) (pc' := 22) rfl (by decide) (by decide) rfl dX3_isTyped_19 rfl (ihN rfl) rfl ?_
  refine bplain (pc' := 23) rfl dX3_isTyped_22 rfl (ihN rfl) rfl ?_
  refine bjmp (tg := 27) (pc' := 26) rfl (by decide) (by decide) rfl dX3_isTyped_23 rfl (ihN rfl) rfl ?_
  exact trivial
theorem bf_X3_isTyped_26 : BOKt mt tX3_isTyped 125 26 b_X3_isTyped_26 := by
  refine bplain (pc' := 27) rfl dX3_isTyped_26 rfl (ihN rfl) rfl ?_
  exact bnop0 rfl (by decide)
theorem bf_X3_isTyped_27 : BOKt mt tX3_isTyped 125 27 b_X3_isTyped_27 := by
  refine bnop1 ?_
  refine bplain (pc' := 29) rfl dX3_isTyped_27 rfl (ihN rfl) rfl ?_
  refine bplain (pc' := 30) rfl dX3_isTyped_29 rfl (ihN rfl) rfl ?_
  refine bthr (pc' := 33) rfl dX3_isTyped_30 rfl (lkf0 q2617 lf_280) (trivial) (ihN rfl) rfl ?_
  refine bplain (pc' := 35) rfl dX3_isTyped_33 rfl (ihN rfl) rfl ?_
  refine bjmp (tg := 62) (pc' := 38) rfl (by decide) (by decide) rfl dX3_isTyped_35 rfl (ihN rfl) rfl ?_
  refine bplain (pc' := 39) rfl dX3_isTyped_38 rfl (ihN rfl) rfl ?_
  refine bthr (pc' := 42) rfl dX3_isTyped_39 rfl (lkf0 q2616 lf_175) (trivial) (ihN rfl) rfl ?_
  refine bplain (pc' := 43) rfl dX3_isTyped_42 rfl (ihN rfl) rfl ?_
  refine bplain (pc' := 44) rfl dX3_isTyped_43 rfl (ihN rfl) rfl ?_
  refine bplain (pc' := 45) rfl dX3_isTyped_44 rfl (ihN rfl) rfl ?_
  refine bjmp (tg := 62) (pc' := 48) rfl (by decide) (by decide) rfl dX3_isTyped_45 rfl (ihN rfl) rfl ?_
  refine bplain (pc' := 49) rfl dX3_isTyped_48 rfl (ihN rfl) rfl ?_
  refine bthr (pc' := 52) rfl dX3_isTyped_49 rfl (lkf0 q2616 lf_175) (trivial) (ihN rfl) rfl ?_
  refine bplain (pc' := 53) rfl dX3_isTyped_52 rfl (ihN rfl) rfl ?_
  refine bplain (pc' := 54) rfl dX3_isTyped_53 rfl (ihN rfl) rfl ?_
  refine bplain (pc' := 55) rfl dX3_isTyped_54 rfl (ihN rfl) rfl ?_
  refine bjmp (tg := 62) (pc' := 58) rfl (by decide) (by decide) rfl dX3_isTyped_55 rfl (ihN rfl) rfl ?_
  refine bplain (pc' := 59) rfl dX3_isTyped_58 rfl (ihN rfl) rfl ?_
  refine bjmp (tg := 63) (pc' := 62) rfl (by decide) (by decide) rfl dX3_isTyped_59 rfl (ihN rfl) rfl ?_
  exact trivial
theorem bf_X3_isTyped_62 : BOKt mt tX3_isTyped 125 62 b_X3_isTyped_62 := by
  refine bnop1 ?_
  refine bplain (pc' := 63) rfl dX3_isTyped_62 rfl (ihN rfl) rfl ?_
  exact bnop0 rfl (by decide)
theorem bf_X3_isTyped_63 : BOKt mt tX3_isTyped 125 63 b_X3_isTyped_63 := by
  refine bnop1 ?_
  refine bplain (pc' := 65) rfl dX3_isTyped_63 rfl (ihN rfl) rfl ?_
  refine bplain (pc' := 67) rfl dX3_isTyped_65 rfl (ihN rfl) rfl ?_
  refine bjmp (tg := 107) (pc' := 70) rfl (by decide) (by decide) rfl dX3_isTyped_67 rfl (ihN rfl) rfl ?_
  refine bplain (pc' := 72) rfl dX3_isTyped_70 rfl (ihN rfl) rfl ?_
  refine bplain (pc' := 73) rfl dX3_isTyped_72 rfl (ihN rfl) rfl ?_
  refine bjmp (tg := 86) (pc' := 76) rfl (by decide) (by decide) rfl dX3_isTyped_73 rfl (ihN rfl) rfl ?_
  refine bplain (pc' := 77) rfl dX3_isTyped_76 rfl (ihN rfl) rfl ?_
  refine bthr (pc' := 80) rfl dX3_isTyped_77 rfl (lkf0 q2616 lf_175) (trivial) (ihN rfl) rfl ?_
  refine bplain (pc' := 81) rfl dX3_isTyped_80 rfl (ihN rfl) rfl ?_
  refine bplain (pc' := 82) rfl dX3_isTyped_81 rfl (ihN rfl) rfl ?_
  refine bplain (pc' := 83) rfl dX3_isTyped_82 rfl (ihN rfl) rfl ?_
  refine bjmp (tg := 107) (pc' := 86) rfl (by decide) (by decide) rfl dX3_isTyped_83 rfl (ihN rfl) rfl ?_
  exact bnop0 rfl (by decide)
theorem bf_X3_isTyped_86 : BOKt mt tX3_isTyped 125 86 b_X3_isTyped_86 := by
  refine bnop1 ?_
  refine bplain (pc' := 88) rfl dX3_isTyped_86 rfl (ihN rfl) rfl ?_
  refine bplain (pc' := 89) rfl dX3_isTyped_88 rfl (ihN rfl) rfl ?_
  refine bjmp (tg := 103) (pc' := 92) rfl (by decide) (by decide) rfl dX3_isTyped_89 rfl (ihN rfl) rfl ?_
  refine bplain (pc' := 93) rfl dX3_isTyped_92 rfl (ihN rfl) rfl ?_
  refine bthr (pc' := 96) rfl dX3_isTyped_93 rfl (lkf0 q2616 lf_175) (trivial) (ihN rfl) rfl ?_
  refine bplain (pc' := 97) rfl dX3_isTyped_96 rfl (ihN rfl) rfl ?_
  refine bplain (pc' := 98) rfl dX3_isTyped_97 rfl (ihN rfl) rfl ?_
  refine bplain (pc' := 100) rfl dX3_isTyped_98 rfl (ihN rfl) rfl ?_
  refine bjmp (tg := 107) (pc' := 103) rfl (by decide) (by decide) rfl dX3_isTyped_100 rfl (ihN rfl) rfl ?_
  exact bnop0 rfl (by decide)
theorem bf_X3_isTyped_103 : BOKt mt tX3_isTyped 125 103 b_X3_isTyped_103 := by
  refine bnop1 ?_
  refine bplain (pc' := 104) rfl dX3_isTyped_103 rfl (ihN rfl) rfl ?_
  refine bjmp (tg := 108) (pc' := 107) rfl (by decide) (by decide) rfl dX3_isTyped_104 rfl (ihN rfl) rfl ?_
  exact trivial
theorem bf_X3_isTyped_107 : BOKt mt tX3_isTyped 125 107 b_X3_isTyped_107 := by
  refine bnop1 ?_
  refine bplain (pc' := 108) rfl dX3_isTyped_107 rfl (ihN rfl) rfl ?_
  exact bnop0 rfl (by decide)
theorem bf_X3_isTyped_108 : BOKt mt tX3_isTyped 125 108 b_X3_isTyped_108 := by
  refine bnop1 ?_
  refine bplain (pc' := 110) rfl dX3_isTyped_108 rfl (ihN rfl) rfl ?_
  refine bplain (pc' := 112) rfl dX3_isTyped_110 rfl (ihN rfl) rfl ?_
  refine bjmp (tg := 136) (pc' := 115) rfl (by decide) (by decide) rfl dX3_isTyped_112 rfl (ihN rfl) rfl ?_
  refine bplain (pc' := 117) rfl dX3_isTyped_115 rfl (ihN rfl) rfl ?_
  refine bplain (pc' := 118) rfl dX3_isTyped_117 rfl (ihN rfl) rfl ?_
  refine bjmp (tg := 132) (pc' := 121) rfl (by decide) (by decide) rfl dX3_isTyped_118 rfl (ihN rfl) rfl ?_
  refine bplain (pc' := 122) rfl dX3_isTyped_121 rfl (ihN rfl) rfl ?_
  refine bthr (pc' := 125) rfl dX3_isTyped_122 rfl (lkf0 q2616 lf_175) (trivial) (ihN rfl) rfl ?_
  refine bplain (pc' := 126) rfl dX3_isTyped_125 rfl (ihN rfl) rfl ?_
  refine bplain (pc' := 127) rfl dX3_isTyped_126 rfl (ihN rfl) rfl ?_
  refine bplain (pc' := 129) rfl dX3_isTyped_127 rfl (ihN rfl) rfl ?_
  refine bjmp (tg := 136) (pc' := 132) rfl (by decide) (by decide) rfl dX3_isTyped_129 rfl (ihN rfl) rfl ?_
  exact bnop0 rfl (by decide)
theorem bf_X3_isTyped_132 : BOKt mt tX3_isTyped 125 132 b_X3_isTyped_132 := by
  refine bnop1 ?_
  refine bplain (pc' := 133) rfl dX3_isTyped_132 rfl (ihN rfl) rfl ?_
  refine bjmp (tg := 137) (pc' := 136) rfl (by decide) (by decide) rfl dX3_isTyped_133 rfl (ihN rfl) rfl ?_
  exact trivial
theorem bf_X3_isTyped_136 : BOKt mt tX3_isTyped 125 136 b_X3_isTyped_136 := by
  refine bnop1 ?_
  refine bplain (pc' := 137) rfl dX3_isTyped_136 rfl (ihN rfl) rfl ?_
  exact bnop0 rfl (by decide)
theorem bf_X3_isTyped_137 : BOKt mt tX3_isTyped 125 137 b_X3_isTyped_137 := by
  refine bnop1 ?_
  refine bret (pc' := 138) rfl dX3_isTyped_137 rfl (Or.inr ⟨rfl, rfl⟩) (ihN rfl) rfl ?_
  exact trivial
theorem tf_X3_isTyped : ∀ x ∈ tb_X3_isTyped, BOK mt 125 x.1 x.2 := tb_c mt_X3_isTyped bf_X3_isTyped_0 (tb_c mt_X3_isTyped bf_X3_isTyped_9 (tb_c mt_X3_isTyped bf_X3_isTyped_18 (tb_c mt_X3_isTyped bf_X3_isTyped_26 (tb_c mt_X3_isTyped bf_X3_isTyped_27 (tb_c mt_X3_isTyped bf_X3_isTyped_62 (tb_c mt_X3_isTyped bf_X3_isTyped_63 (tb_c mt_X3_isTyped bf_X3_isTyped_86 (tb_c mt_X3_isTyped bf_X3_isTyped_103 (tb_c mt_X3_isTyped bf_X3_isTyped_107 (tb_c mt_X3_isTyped bf_X3_isTyped_108 (tb_c mt_X3_isTyped bf_X3_isTyped_132 (tb_c mt_X3_isTyped bf_X3_isTyped_136 (tb_c mt_X3_isTyped bf_X3_isTyped_137 (tb_n))))))))))))))
theorem bf_X3_isName_0 : BOKt mt tX3_isName 126 0 b_X3_isName_0 := by
  refine bplain (pc' := 1) rfl dX3_isName_0 rfl (ihN rfl) rfl ?_
  exact bsw rfl dX3_isName_1 (swt (by decide) (by decide) (by decide) (by decide) (by decide +kernel) (by decide +kernel)) (by decide +kernel) (ihN rfl)
theorem bf_X3_isName_64 : BOKt mt tX3_isName 126 64 b_X3_isName_64 := by
  refine bplain (pc' := 65) rfl dX3_isName_64 rfl (ihN rfl) rfl ?_
  refine bplain (pc' := 67) rfl dX3_isName_65 rfl (ihN rfl) rfl ?_
  refine bplain (pc' := 69) rfl dX3_isName_67 rfl (ihN rfl) rfl ?_
  refine bplain (pc' := 71) rfl dX3_isName_69 rfl (ihN rfl) rfl ?_
  refine bplain (pc' := 72) rfl dX3_isName_71 rfl (ihN rfl) rfl ?_
  refine bplain (pc' := 73) rfl dX3_isName_72 rfl (ihN rfl) rfl ?_
  refine bcall (pc' := 76) rfl dX3_isName_73 rfl (trivial) (lcv (n := 5) rfl (pvc (lfv mt_X3_isTyped ⟨by decide, by decide⟩ mok_X3_isTyped ⟨by decide, by decide⟩ ⟨q2814, ln_333, Or.inl ⟨q2812, Or.inl qs68⟩⟩) (trivial)) (Or.inl (by decide))) (ihN rfl) rfl ?_
  refine bret (pc' := 77) rfl dX3_isName_76 rfl (Or.inr ⟨rfl, rfl⟩) (ihN rfl) rfl ?_
  exact trivial
theorem bf_X3_isName_77 : BOKt mt tX3_isName 126 77 b_X3_isName_77 := by
  refine bplain (pc' := 78) rfl dX3_isName_77 rfl (ihN rfl) rfl ?_
  refine bplain (pc' := 80) rfl dX3_isName_78 rfl (ihN rfl) rfl ?_
  refine bplain (pc' := 82) rfl dX3_isName_80 rfl (ihN rfl) rfl ?_
  refine bplain (pc' := 84) rfl dX3_isName_82 rfl (ihN rfl) rfl ?_
  refine bplain (pc' := 85) rfl dX3_isName_84 rfl (ihN rfl) rfl ?_
  refine bplain (pc' := 86) rfl dX3_isName_85 rfl (ihN rfl) rfl ?_
  refine bcall (pc' := 89) rfl dX3_isName_86 rfl (trivial) (lcv (n := 5) rfl (pvc (lfv mt_X3_isTyped ⟨by decide, by decide⟩ mok_X3_isTyped ⟨by decide, by decide⟩ ⟨q2814, ln_333, Or.inl ⟨q2812, Or.inl qs68⟩⟩) (trivial)) (Or.inl (by decide))) (ihN rfl) rfl ?_
  refine bret (pc' := 90) rfl dX3_isName_89 rfl (Or.inr ⟨rfl, rfl⟩) (ihN rfl) rfl ?_
  exact trivial
theorem bf_X3_isName_90 : BOKt mt tX3_isName 126 90 b_X3_isName_90 := by
  refine bplain (pc' := 91) rfl dX3_isName_90 rfl (ihN rfl) rfl ?_
  refine bplain (pc' := 93) rfl dX3_isName_91 rfl (ihN rfl) rfl ?_
  refine bplain (pc' := 95) rfl dX3_isName_93 rfl (ihN rfl) rfl ?_
  refine bplain (pc' := 97) rfl dX3_isName_95 rfl (ihN rfl) rfl ?_
  refine bplain (pc' := 98) rfl dX3_isName_97 rfl (ihN rfl) rfl ?_
  refine bplain (pc' := 99) rfl dX3_isName_98 rfl (ihN rfl) rfl ?_
  refine bcall (pc' := 102) rfl dX3_isName_99 rfl (trivial) (lcv (n := 5) rfl (pvc (lfv mt_X3_isTyped ⟨by decide, by decide⟩ mok_X3_isTyped ⟨by decide, by decide⟩ ⟨q2814, ln_333, Or.inl ⟨q2812, Or.inl qs68⟩⟩) (trivial)) (Or.inl (by decide))) (ihN rfl) rfl ?_
  refine bret (pc' := 103) rfl dX3_isName_102 rfl (Or.inr ⟨rfl, rfl⟩) (ihN rfl) rfl ?_
  exact trivial
theorem bf_X3_isName_103 : BOKt mt tX3_isName 126 103 b_X3_isName_103 := by
  refine bplain (pc' := 104) rfl dX3_isName_103 rfl (ihN rfl) rfl ?_
  refine bplain (pc' := 106) rfl dX3_isName_104 rfl (ihN rfl) rfl ?_
  refine bplain (pc' := 108) rfl dX3_isName_106 rfl (ihN rfl) rfl ?_
  refine bplain (pc' := 110) rfl dX3_isName_108 rfl (ihN rfl) rfl ?_
  refine bplain (pc' := 111) rfl dX3_isName_110 rfl (ihN rfl) rfl ?_
  refine bplain (pc' := 112) rfl dX3_isName_111 rfl (ihN rfl) rfl ?_
  refine bcall (pc' := 115) rfl dX3_isName_112 rfl (trivial) (lcv (n := 5) rfl (pvc (lfv mt_X3_isTyped ⟨by decide, by decide⟩ mok_X3_isTyped ⟨by decide, by decide⟩ ⟨q2814, ln_333, Or.inl ⟨q2812, Or.inl qs68⟩⟩) (trivial)) (Or.inl (by decide))) (ihN rfl) rfl ?_
  refine bret (pc' := 116) rfl dX3_isName_115 rfl (Or.inr ⟨rfl, rfl⟩) (ihN rfl) rfl ?_
  exact trivial
theorem bf_X3_isName_116 : BOKt mt tX3_isName 126 116 b_X3_isName_116 := by
  refine bplain (pc' := 117) rfl dX3_isName_116 rfl (ihN rfl) rfl ?_
  refine bplain (pc' := 119) rfl dX3_isName_117 rfl (ihN rfl) rfl ?_
  refine bplain (pc' := 121) rfl dX3_isName_119 rfl (ihN rfl) rfl ?_
  refine bplain (pc' := 123) rfl dX3_isName_121 rfl (ihN rfl) rfl ?_
  refine bplain (pc' := 124) rfl dX3_isName_123 rfl (ihN rfl) rfl ?_
  refine bplain (pc' := 125) rfl dX3_isName_124 rfl (ihN rfl) rfl ?_
  refine bcall (pc' := 128) rfl dX3_isName_125 rfl (trivial) (lcv (n := 5) rfl (pvc (lfv mt_X3_isTyped ⟨by decide, by decide⟩ mok_X3_isTyped ⟨by decide, by decide⟩ ⟨q2814, ln_333, Or.inl ⟨q2812, Or.inl qs68⟩⟩) (trivial)) (Or.inl (by decide))) (ihN rfl) rfl ?_
  refine bret (pc' := 129) rfl dX3_isName_128 rfl (Or.inr ⟨rfl, rfl⟩) (ihN rfl) rfl ?_
  exact trivial
theorem bf_X3_isName_129 : BOKt mt tX3_isName 126 129 b_X3_isName_129 := by
  refine bplain (pc' := 130) rfl dX3_isName_129 rfl (ihN rfl) rfl ?_
  refine bplain (pc' := 132) rfl dX3_isName_130 rfl (ihN rfl) rfl ?_
  refine bplain (pc' := 134) rfl dX3_isName_132 rfl (ihN rfl) rfl ?_
  refine bplain (pc' := 136) rfl dX3_isName_134 rfl (ihN rfl) rfl ?_
  refine bplain (pc' := 137) rfl dX3_isName_136 rfl (ihN rfl) rfl ?_
  refine bplain (pc' := 138) rfl dX3_isName_137 rfl (ihN rfl) rfl ?_
  refine bcall (pc' := 141) rfl dX3_isName_138 rfl (trivial) (lcv (n := 5) rfl (pvc (lfv mt_X3_isTyped ⟨by decide, by decide⟩ mok_X3_isTyped ⟨by decide, by decide⟩ ⟨q2814, ln_333, Or.inl ⟨q2812, Or.inl qs68⟩⟩) (trivial)) (Or.inl (by decide))) (ihN rfl) rfl ?_
  refine bret (pc' := 142) rfl dX3_isName_141 rfl (Or.inr ⟨rfl, rfl⟩) (ihN rfl) rfl ?_
  exact trivial
theorem bf_X3_isName_142 : BOKt mt tX3_isName 126 142 b_X3_isName_142 := by
  refine bplain (pc' := 143) rfl dX3_isName_142 rfl (ihN rfl) rfl ?_
  refine bplain (pc' := 145) rfl dX3_isName_143 rfl (ihN rfl) rfl ?_
  refine bplain (pc' := 147) rfl dX3_isName_145 rfl (ihN rfl) rfl ?_
  refine bplain (pc' := 149) rfl dX3_isName_147 rfl (ihN rfl) rfl ?_
  refine bplain (pc' := 150) rfl dX3_isName_149 rfl (ihN rfl) rfl ?_
  refine bplain (pc' := 151) rfl dX3_isName_150 rfl (ihN rfl) rfl ?_
  refine bcall (pc' := 154) rfl dX3_isName_151 rfl (trivial) (lcv (n := 5) rfl (pvc (lfv mt_X3_isTyped ⟨by decide, by decide⟩ mok_X3_isTyped ⟨by decide, by decide⟩ ⟨q2814, ln_333, Or.inl ⟨q2812, Or.inl qs68⟩⟩) (trivial)) (Or.inl (by decide))) (ihN rfl) rfl ?_
  refine bret (pc' := 155) rfl dX3_isName_154 rfl (Or.inr ⟨rfl, rfl⟩) (ihN rfl) rfl ?_
  exact trivial
theorem bf_X3_isName_155 : BOKt mt tX3_isName 126 155 b_X3_isName_155 := by
  refine bplain (pc' := 156) rfl dX3_isName_155 rfl (ihN rfl) rfl ?_
  refine bplain (pc' := 158) rfl dX3_isName_156 rfl (ihN rfl) rfl ?_
  refine bplain (pc' := 160) rfl dX3_isName_158 rfl (ihN rfl) rfl ?_
  refine bplain (pc' := 161) rfl dX3_isName_160 rfl (ihN rfl) rfl ?_
  refine bplain (pc' := 162) rfl dX3_isName_161 rfl (ihN rfl) rfl ?_
  refine bplain (pc' := 163) rfl dX3_isName_162 rfl (ihN rfl) rfl ?_
  refine bcall (pc' := 166) rfl dX3_isName_163 rfl (trivial) (lcv (n := 5) rfl (pvc (lfv mt_X3_isTyped ⟨by decide, by decide⟩ mok_X3_isTyped ⟨by decide, by decide⟩ ⟨q2814, ln_333, Or.inl ⟨q2812, Or.inl qs68⟩⟩) (trivial)) (Or.inl (by decide))) (ihN rfl) rfl ?_
  refine bret (pc' := 167) rfl dX3_isName_166 rfl (Or.inr ⟨rfl, rfl⟩) (ihN rfl) rfl ?_
  exact trivial
theorem bf_X3_isName_167 : BOKt mt tX3_isName 126 167 b_X3_isName_167 := by
  refine bplain (pc' := 168) rfl dX3_isName_167 rfl (ihN rfl) rfl ?_
  refine bplain (pc' := 170) rfl dX3_isName_168 rfl (ihN rfl) rfl ?_
  refine bplain (pc' := 172) rfl dX3_isName_170 rfl (ihN rfl) rfl ?_
  refine bplain (pc' := 174) rfl dX3_isName_172 rfl (ihN rfl) rfl ?_
  refine bplain (pc' := 175) rfl dX3_isName_174 rfl (ihN rfl) rfl ?_
  refine bplain (pc' := 176) rfl dX3_isName_175 rfl (ihN rfl) rfl ?_
  refine bcall (pc' := 179) rfl dX3_isName_176 rfl (trivial) (lcv (n := 5) rfl (pvc (lfv mt_X3_isTyped ⟨by decide, by decide⟩ mok_X3_isTyped ⟨by decide, by decide⟩ ⟨q2814, ln_333, Or.inl ⟨q2812, Or.inl qs68⟩⟩) (trivial)) (Or.inl (by decide))) (ihN rfl) rfl ?_
  refine bret (pc' := 180) rfl dX3_isName_179 rfl (Or.inr ⟨rfl, rfl⟩) (ihN rfl) rfl ?_
  exact trivial
theorem bf_X3_isName_180 : BOKt mt tX3_isName 126 180 b_X3_isName_180 := by
  refine bplain (pc' := 181) rfl dX3_isName_180 rfl (ihN rfl) rfl ?_
  refine bplain (pc' := 183) rfl dX3_isName_181 rfl (ihN rfl) rfl ?_
  refine bplain (pc' := 185) rfl dX3_isName_183 rfl (ihN rfl) rfl ?_
  refine bplain (pc' := 187) rfl dX3_isName_185 rfl (ihN rfl) rfl ?_
  refine bplain (pc' := 189) rfl dX3_isName_187 rfl (ihN rfl) rfl ?_
  refine bplain (pc' := 190) rfl dX3_isName_189 rfl (ihN rfl) rfl ?_
  refine bcall (pc' := 193) rfl dX3_isName_190 rfl (trivial) (lcv (n := 5) rfl (pvc (lfv mt_X3_isTyped ⟨by decide, by decide⟩ mok_X3_isTyped ⟨by decide, by decide⟩ ⟨q2814, ln_333, Or.inl ⟨q2812, Or.inl qs68⟩⟩) (trivial)) (Or.inl (by decide))) (ihN rfl) rfl ?_
  refine bret (pc' := 194) rfl dX3_isName_193 rfl (Or.inr ⟨rfl, rfl⟩) (ihN rfl) rfl ?_
  exact trivial
theorem bf_X3_isName_194 : BOKt mt tX3_isName 126 194 b_X3_isName_194 := by
  refine bplain (pc' := 195) rfl dX3_isName_194 rfl (ihN rfl) rfl ?_
  refine bplain (pc' := 197) rfl dX3_isName_195 rfl (ihN rfl) rfl ?_
  refine bplain (pc' := 199) rfl dX3_isName_197 rfl (ihN rfl) rfl ?_
  refine bplain (pc' := 201) rfl dX3_isName_199 rfl (ihN rfl) rfl ?_
  refine bplain (pc' := 203) rfl dX3_isName_201 rfl (ihN rfl) rfl ?_
  refine bplain (pc' := 204) rfl dX3_isName_203 rfl (ihN rfl) rfl ?_
  refine bcall (pc' := 207) rfl dX3_isName_204 rfl (trivial) (lcv (n := 5) rfl (pvc (lfv mt_X3_isTyped ⟨by decide, by decide⟩ mok_X3_isTyped ⟨by decide, by decide⟩ ⟨q2814, ln_333, Or.inl ⟨q2812, Or.inl qs68⟩⟩) (trivial)) (Or.inl (by decide))) (ihN rfl) rfl ?_
  refine bret (pc' := 208) rfl dX3_isName_207 rfl (Or.inr ⟨rfl, rfl⟩) (ihN rfl) rfl ?_
  exact trivial
theorem bf_X3_isName_208 : BOKt mt tX3_isName 126 208 b_X3_isName_208 := by
  refine bplain (pc' := 209) rfl dX3_isName_208 rfl (ihN rfl) rfl ?_
  refine bplain (pc' := 211) rfl dX3_isName_209 rfl (ihN rfl) rfl ?_
  refine bplain (pc' := 213) rfl dX3_isName_211 rfl (ihN rfl) rfl ?_
  refine bplain (pc' := 215) rfl dX3_isName_213 rfl (ihN rfl) rfl ?_
  refine bplain (pc' := 217) rfl dX3_isName_215 rfl (ihN rfl) rfl ?_
  refine bplain (pc' := 218) rfl dX3_isName_217 rfl (ihN rfl) rfl ?_
  refine bcall (pc' := 221) rfl dX3_isName_218 rfl (trivial) (lcv (n := 5) rfl (pvc (lfv mt_X3_isTyped ⟨by decide, by decide⟩ mok_X3_isTyped ⟨by decide, by decide⟩ ⟨q2814, ln_333, Or.inl ⟨q2812, Or.inl qs68⟩⟩) (trivial)) (Or.inl (by decide))) (ihN rfl) rfl ?_
  refine bret (pc' := 222) rfl dX3_isName_221 rfl (Or.inr ⟨rfl, rfl⟩) (ihN rfl) rfl ?_
  exact trivial
theorem bf_X3_isName_222 : BOKt mt tX3_isName 126 222 b_X3_isName_222 := by
  refine bplain (pc' := 223) rfl dX3_isName_222 rfl (ihN rfl) rfl ?_
  refine bplain (pc' := 225) rfl dX3_isName_223 rfl (ihN rfl) rfl ?_
  refine bplain (pc' := 227) rfl dX3_isName_225 rfl (ihN rfl) rfl ?_
  refine bplain (pc' := 229) rfl dX3_isName_227 rfl (ihN rfl) rfl ?_
  refine bplain (pc' := 231) rfl dX3_isName_229 rfl (ihN rfl) rfl ?_
  refine bplain (pc' := 233) rfl dX3_isName_231 rfl (ihN rfl) rfl ?_
  refine bcall (pc' := 236) rfl dX3_isName_233 rfl (trivial) (lcv (n := 5) rfl (pvc (lfv mt_X3_isTyped ⟨by decide, by decide⟩ mok_X3_isTyped ⟨by decide, by decide⟩ ⟨q2814, ln_333, Or.inl ⟨q2812, Or.inl qs68⟩⟩) (trivial)) (Or.inl (by decide))) (ihN rfl) rfl ?_
  refine bret (pc' := 237) rfl dX3_isName_236 rfl (Or.inr ⟨rfl, rfl⟩) (ihN rfl) rfl ?_
  exact trivial
theorem tf_X3_isName : ∀ x ∈ tb_X3_isName, BOK mt 126 x.1 x.2 := tb_c mt_X3_isName bf_X3_isName_0 (tb_c mt_X3_isName bf_X3_isName_64 (tb_c mt_X3_isName bf_X3_isName_77 (tb_c mt_X3_isName bf_X3_isName_90 (tb_c mt_X3_isName bf_X3_isName_103 (tb_c mt_X3_isName bf_X3_isName_116 (tb_c mt_X3_isName bf_X3_isName_129 (tb_c mt_X3_isName bf_X3_isName_142 (tb_c mt_X3_isName bf_X3_isName_155 (tb_c mt_X3_isName bf_X3_isName_167 (tb_c mt_X3_isName bf_X3_isName_180 (tb_c mt_X3_isName bf_X3_isName_194 (tb_c mt_X3_isName bf_X3_isName_208 (tb_c mt_X3_isName bf_X3_isName_222 (tb_n))))))))))))))
theorem bf_X3_statement_0 : BOKt mt tX3_statement 127 0 b_X3_statement_0 := by
  refine bplain (pc' := 1) rfl dX3_statement_0 rfl (ihN rfl) rfl ?_
  refine bplain (pc' := 2) rfl dX3_statement_1 rfl (ihN rfl) rfl ?_
  refine bplain (pc' := 3) rfl dX3_statement_2 rfl (ihN rfl) rfl ?_
  refine bcall (pc' := 6) rfl dX3_statement_3 rfl (trivial) (lcs (l := q2747) mt_X3_in ⟨by decide, by decide⟩ mok_X3_in rfl ln_226 (Or.inl q2746)) (ihN rfl) rfl ?_
  refine bjmp (tg := 12) (pc' := 9) rfl (by decide) (by decide) rfl dX3_statement_6 rfl (ihN rfl) rfl ?_
  refine bplain (pc' := 11) rfl dX3_statement_9 rfl (ihN rfl) rfl ?_
  refine bret (pc' := 12) rfl dX3_statement_11 rfl (Or.inl ⟨rfl, rfl⟩) (ihN rfl) rfl ?_
  exact trivial
theorem bf_X3_statement_12 : BOKt mt tX3_statement 127 12 b_X3_statement_12 := by
  refine bplain (pc' := 13) rfl dX3_statement_12 rfl (ihN rfl) rfl ?_
  refine bplain (pc' := 14) rfl dX3_statement_13 rfl (ihN rfl) rfl ?_
  refine bplain (pc' := 15) rfl dX3_statement_14 rfl (ihN rfl) rfl ?_
  refine bplain (pc' := 16) rfl dX3_statement_15 rfl (ihN rfl) rfl ?_
  exact bnop0 rfl (by decide)
theorem bf_X3_statement_16 : BOKt mt tX3_statement 127 16 b_X3_statement_16 := by
  refine bplain (pc' := 17) rfl dX3_statement_16 rfl (ihN rfl) rfl ?_
  refine bplain (pc' := 19) rfl dX3_statement_17 rfl (ihN rfl) rfl ?_
  refine bjmp (tg := 42) (pc' := 22) rfl (by decide) (by decide) rfl dX3_statement_19 rfl (ihN rfl) rfl ?_
  refine bplain (pc' := 23) rfl dX3_statement_22 rfl (ihN rfl) rfl ?_
  refine bplain (pc' := 24) rfl dX3_statement_23 rfl (ihN rfl) rfl ?_
  refine bcall (pc' := 27) rfl dX3_statement_24 rfl (trivial) (lcv (n := 1) rfl (pvc (lfv mt_X3_isName ⟨by decide, by decide⟩ mok_X3_isName ⟨by decide, by decide⟩ ⟨q2810, ln_222, Or.inl ⟨q2808, Or.inl qs67⟩⟩) (trivial)) (Or.inl (by decide))) (ihN rfl) rfl ?_
  refine bjmp (tg := 34) (pc' := 30) rfl (by decide) (by decide) rfl dX3_statement_27 rfl (ihN rfl) rfl ?_
  refine bplain (pc' := 31) rfl dX3_statement_30 rfl (ihN rfl) rfl ?_
  refine bjmp (tg := 35) (pc' := 34) rfl (by decide) (by decide) rfl dX3_statement_31 rfl (ihN rfl) rfl ?_
  exact trivial
theorem bf_X3_statement_34 : BOKt mt tX3_statement 127 34 b_X3_statement_34 := by
  refine bplain (pc' := 35) rfl dX3_statement_34 rfl (ihN rfl) rfl ?_
  exact bnop0 rfl (by decide)
theorem bf_X3_statement_35 : BOKt mt tX3_statement 127 35 b_X3_statement_35 := by
  refine bnop1 ?_
  refine bplain (pc' := 36) rfl dX3_statement_35 rfl (ihN rfl) rfl ?_
  refine bplain (pc' := 39) rfl dX3_statement_36 rfl (ihN rfl) rfl ?_
  refine bjmp (tg := 16) (pc' := 42) rfl (by decide) (by decide) rfl dX3_statement_39 rfl (ihN rfl) rfl ?_
  exact trivial
theorem bf_X3_statement_42 : BOKt mt tX3_statement 127 42 b_X3_statement_42 := by
  refine bplain (pc' := 43) rfl dX3_statement_42 rfl (ihN rfl) rfl ?_
  refine bplain (pc' := 44) rfl dX3_statement_43 rfl (ihN rfl) rfl ?_
  refine bjmp (tg := 50) (pc' := 47) rfl (by decide) (by decide) rfl dX3_statement_44 rfl (ihN rfl) rfl ?_
  refine bplain (pc' := 49) rfl dX3_statement_47 rfl (ihN rfl) rfl ?_
  refine bret (pc' := 50) rfl dX3_statement_49 rfl (Or.inl ⟨rfl, rfl⟩) (ihN rfl) rfl ?_
  exact trivial
theorem bf_X3_statement_50 : BOKt mt tX3_statement 127 50 b_X3_statement_50 := by
  refine bplain (pc' := 51) rfl dX3_statement_50 rfl (ihN rfl) rfl ?_
  refine bthr (pc' := 54) rfl dX3_statement_51 rfl (lkf0 q2604 lf_334) (trivial) (ihN rfl) rfl ?_
  refine bplain (pc' := 55) rfl dX3_statement_54 rfl (ihN rfl) rfl ?_
  refine bjmp (tg := 61) (pc' := 58) rfl (by decide) (by decide) rfl dX3_statement_55 rfl (ihN rfl) rfl ?_
  refine bplain (pc' := 60) rfl dX3_statement_58 rfl (ihN rfl) rfl ?_
  refine bret (pc' := 61) rfl dX3_statement_60 rfl (Or.inl ⟨rfl, rfl⟩) (ihN rfl) rfl ?_
  exact trivial
theorem bf_X3_statement_61 : BOKt mt tX3_statement 127 61 b_X3_statement_61 := by
  refine bplain (pc' := 62) rfl dX3_statement_61 rfl (ihN rfl) rfl ?_
  refine bplain (pc' := 63) rfl dX3_statement_62 rfl (ihN rfl) rfl ?_
  refine bobj (pc' := 66) rfl dX3_statement_63 rfl (⟨lkf0 q2617 lf_280, lkp0 lp_281⟩) (ihN rfl) rfl ?_
  refine bplain (pc' := 67) rfl dX3_statement_66 rfl (ihN rfl) rfl ?_
  refine bplain (pc' := 68) rfl dX3_statement_67 rfl (ihN rfl) rfl ?_
  refine bplain (pc' := 69) rfl dX3_statement_68 rfl (ihN rfl) rfl ?_
  refine bthr (pc' := 72) rfl dX3_statement_69 rfl (lkf0 q2604 lf_334) (trivial) (ihN rfl) rfl ?_
  refine bplain (pc' := 73) rfl dX3_statement_72 rfl (ihN rfl) rfl ?_
  refine bplain (pc' := 74) rfl dX3_statement_73 rfl (ihN rfl) rfl ?_
  refine bplain (pc' := 75) rfl dX3_statement_74 rfl (ihN rfl) rfl ?_
  refine bcall (pc' := 78) rfl dX3_statement_75 rfl (trivial) (lcv (n := 5) rfl (pvc (lfv mt_X3_logs ⟨by decide, by decide⟩ mok_X3_logs ⟨by decide, by decide⟩ ⟨q2794, ln_275, Or.inl ⟨q2792, Or.inl qs66⟩⟩) (trivial)) (Or.inl (by decide))) (ihN rfl) rfl ?_
  refine bplain (pc' := 79) rfl dX3_statement_78 rfl (ihN rfl) rfl ?_
  refine bthr (pc' := 82) rfl dX3_statement_79 rfl (lkf0 q2605 lf_155) (trivial) (ihN rfl) rfl ?_
  refine bplain (pc' := 83) rfl dX3_statement_82 rfl (ihN rfl) rfl ?_
  refine bthr (pc' := 86) rfl dX3_statement_83 rfl (lkf0 q2604 lf_334) (trivial) (ihN rfl) rfl ?_
  refine bplain (pc' := 87) rfl dX3_statement_86 rfl (ihN rfl) rfl ?_
  refine bplain (pc' := 88) rfl dX3_statement_87 rfl (ihN rfl) rfl ?_
  refine bplain (pc' := 89) rfl dX3_statement_88 rfl (ihN rfl) rfl ?_
  refine bthr (pc' := 92) rfl dX3_statement_89 rfl (lkf0 q2606 lf_157) (trivial) (ihN rfl) rfl ?_
  refine bplain (pc' := 93) rfl dX3_statement_92 rfl (ihN rfl) rfl ?_
  refine bthr (pc' := 96) rfl dX3_statement_93 rfl (lkf0 q2604 lf_334) (trivial) (ihN rfl) rfl ?_
  refine bplain (pc' := 97) rfl dX3_statement_96 rfl (ihN rfl) rfl ?_
  refine bplain (pc' := 98) rfl dX3_statement_97 rfl (ihN rfl) rfl ?_
  refine bplain (pc' := 99) rfl dX3_statement_98 rfl (ihN rfl) rfl ?_
  refine bthr (pc' := 102) rfl dX3_statement_99 rfl (lkf0 q2607 lf_159) (trivial) (ihN rfl) rfl ?_
  refine bplain (pc' := 103) rfl dX3_statement_102 rfl (ihN rfl) rfl ?_
  refine bthr (pc' := 106) rfl dX3_statement_103 rfl (lkf0 q2604 lf_334) (trivial) (ihN rfl) rfl ?_
  refine bplain (pc' := 107) rfl dX3_statement_106 rfl (ihN rfl) rfl ?_
  refine bplain (pc' := 108) rfl dX3_statement_107 rfl (ihN rfl) rfl ?_
  refine bplain (pc' := 109) rfl dX3_statement_108 rfl (ihN rfl) rfl ?_
  refine bthr (pc' := 112) rfl dX3_statement_109 rfl (lkf0 q2608 lf_161) (trivial) (ihN rfl) rfl ?_
  refine bplain (pc' := 113) rfl dX3_statement_112 rfl (ihN rfl) rfl ?_
  refine bthr (pc' := 116) rfl dX3_statement_113 rfl (lkf0 q2604 lf_334) (trivial) (ihN rfl) rfl ?_
  refine bplain (pc' := 117) rfl dX3_statement_116 rfl (ihN rfl) rfl ?_
  refine bplain (pc' := 118) rfl dX3_statement_117 rfl (ihN rfl) rfl ?_
  refine bplain (pc' := 119) rfl dX3_statement_118 rfl (ihN rfl) rfl ?_
  refine bthr (pc' := 122) rfl dX3_statement_119 rfl (lkf0 q2609 lf_163) (trivial) (ihN rfl) rfl ?_
  refine bplain (pc' := 123) rfl dX3_statement_122 rfl (ihN rfl) rfl ?_
  refine bthr (pc' := 126) rfl dX3_statement_123 rfl (lkf0 q2604 lf_334) (trivial) (ihN rfl) rfl ?_
  refine bplain (pc' := 127) rfl dX3_statement_126 rfl (ihN rfl) rfl ?_
  refine bplain (pc' := 128) rfl dX3_statement_127 rfl (ihN rfl) rfl ?_
  refine bplain (pc' := 129) rfl dX3_statement_128 rfl (ihN rfl) rfl ?_
  refine bplain (pc' := 130) rfl dX3_statement_129 rfl (ihN rfl) rfl ?_
  refine bthr (pc' := 133) rfl dX3_statement_130 rfl (lkf0 q2604 lf_334) (trivial) (ihN rfl) rfl ?_
  refine bplain (pc' := 134) rfl dX3_statement_133 rfl (ihN rfl) rfl ?_
  refine bplain (pc' := 135) rfl dX3_statement_134 rfl (ihN rfl) rfl ?_
  exact bnop0 rfl (by decide)
theorem bf_X3_statement_135 : BOKt mt tX3_statement 127 135 b_X3_statement_135 := by
  refine bnop1 ?_
  refine bplain (pc' := 136) rfl dX3_statement_135 rfl (ihN rfl) rfl ?_
  refine bplain (pc' := 137) rfl dX3_statement_136 rfl (ihN rfl) rfl ?_
  refine bplain (pc' := 138) rfl dX3_statement_137 rfl (ihN rfl) rfl ?_
  refine bthr (pc' := 141) rfl dX3_statement_138 rfl (lkf0 q2604 lf_334) (trivial) (ihN rfl) rfl ?_
  refine bplain (pc' := 142) rfl dX3_statement_141 rfl (ihN rfl) rfl ?_
  refine bplain (pc' := 143) rfl dX3_statement_142 rfl (ihN rfl) rfl ?_
  refine bplain (pc' := 144) rfl dX3_statement_143 rfl (ihN rfl) rfl ?_
  refine bjmp (tg := 191) (pc' := 147) rfl (by decide) (by decide) rfl dX3_statement_144 rfl (ihN rfl) rfl ?_
  refine bplain (pc' := 148) rfl dX3_statement_147 rfl (ihN rfl) rfl ?_
  refine bthr (pc' := 151) rfl dX3_statement_148 rfl (lkf0 q2610 lf_165) (trivial) (ihN rfl) rfl ?_
  refine bplain (pc' := 152) rfl dX3_statement_151 rfl (ihN rfl) rfl ?_
  refine bplain (pc' := 153) rfl dX3_statement_152 rfl (ihN rfl) rfl ?_
  refine bplain (pc' := 154) rfl dX3_statement_153 rfl (ihN rfl) rfl ?_
  refine bplain (pc' := 155) rfl dX3_statement_154 rfl (ihN rfl) rfl ?_
  refine bjmp (tg := 162) (pc' := 158) rfl (by decide) (by decide) rfl dX3_statement_155 rfl (ihN rfl) rfl ?_
  refine bplain (pc' := 159) rfl dX3_statement_158 rfl (ihN rfl) rfl ?_
  refine bjmp (tg := 163) (pc' := 162) rfl (by decide) (by decide) rfl dX3_statement_159 rfl (ihN rfl) rfl ?_
  exact trivial
theorem bf_X3_statement_162 : BOKt mt tX3_statement 127 162 b_X3_statement_162 := by
  refine bplain (pc' := 163) rfl dX3_statement_162 rfl (ihN rfl) rfl ?_
  exact bnop0 rfl (by decide)
theorem bf_X3_statement_163 : BOKt mt tX3_statement 127 163 b_X3_statement_163 := by
  refine bnop1 ?_
  refine bplain (pc' := 164) rfl dX3_statement_163 rfl (ihN rfl) rfl ?_
  refine bplain (pc' := 165) rfl dX3_statement_164 rfl (ihN rfl) rfl ?_
  refine bthr (pc' := 168) rfl dX3_statement_165 rfl (lkf0 q2611 lf_167) (trivial) (ihN rfl) rfl ?_
  refine bplain (pc' := 169) rfl dX3_statement_168 rfl (ihN rfl) rfl ?_
  refine bplain (pc' := 170) rfl dX3_statement_169 rfl (ihN rfl) rfl ?_
  refine bplain (pc' := 171) rfl dX3_statement_170 rfl (ihN rfl) rfl ?_
  refine bplain (pc' := 172) rfl dX3_statement_171 rfl (ihN rfl) rfl ?_
  refine bthr (pc' := 175) rfl dX3_statement_172 rfl (lkf0 q2612 lf_169) (trivial) (ihN rfl) rfl ?_
  refine bplain (pc' := 176) rfl dX3_statement_175 rfl (ihN rfl) rfl ?_
  refine bplain (pc' := 177) rfl dX3_statement_176 rfl (ihN rfl) rfl ?_
  refine bplain (pc' := 178) rfl dX3_statement_177 rfl (ihN rfl) rfl ?_
  refine bplain (pc' := 179) rfl dX3_statement_178 rfl (ihN rfl) rfl ?_
  refine bthr (pc' := 182) rfl dX3_statement_179 rfl (lkf0 q2613 lf_171) (trivial) (ihN rfl) rfl ?_
  refine bplain (pc' := 183) rfl dX3_statement_182 rfl (ihN rfl) rfl ?_
  refine bplain (pc' := 184) rfl dX3_statement_183 rfl (ihN rfl) rfl ?_
  refine bplain (pc' := 185) rfl dX3_statement_184 rfl (ihN rfl) rfl ?_
  refine bplain (pc' := 188) rfl dX3_statement_185 rfl (ihN rfl) rfl ?_
  refine bjmp (tg := 135) (pc' := 191) rfl (by decide) (by decide) rfl dX3_statement_188 rfl (ihN rfl) rfl ?_
  exact trivial
theorem bf_X3_statement_191 : BOKt mt tX3_statement 127 191 b_X3_statement_191 := by
  refine bplain (pc' := 192) rfl dX3_statement_191 rfl (ihN rfl) rfl ?_
  refine bplain (pc' := 193) rfl dX3_statement_192 rfl (ihN rfl) rfl ?_
  refine bthr (pc' := 196) rfl dX3_statement_193 rfl (lkf0 q2604 lf_334) (trivial) (ihN rfl) rfl ?_
  refine bplain (pc' := 197) rfl dX3_statement_196 rfl (ihN rfl) rfl ?_
  refine bplain (pc' := 198) rfl dX3_statement_197 rfl (ihN rfl) rfl ?_
  refine bobj (pc' := 201) rfl dX3_statement_198 rfl (⟨lkf0 q2604 lf_334, lkp0 lp_335⟩) (ihN rfl) rfl ?_
  refine bplain (pc' := 202) rfl dX3_statement_201 rfl (ihN rfl) rfl ?_
  refine bthr (pc' := 205) rfl dX3_statement_202 rfl (lkf0 q2604 lf_334) (trivial) (ihN rfl) rfl ?_
  refine bplain (pc' := 206) rfl dX3_statement_205 rfl (ihN rfl) rfl ?_
  refine bplain (pc' := 207) rfl dX3_statement_206 rfl (ihN rfl) rfl ?_
  refine bret (pc' := 208) rfl dX3_statement_207 rfl (Or.inl ⟨rfl, rfl⟩) (ihN rfl) rfl ?_
  exact trivial
theorem tf_X3_statement : ∀ x ∈ tb_X3_statement, BOK mt 127 x.1 x.2 := tb_c mt_X3_statement bf_X3_statement_0 (tb_c mt_X3_statement bf_X3_statement_12 (tb_c mt_X3_statement bf_X3_statement_16 (tb_c mt_X3_statement bf_X3_statement_34 (tb_c mt_X3_statement bf_X3_statement_35 (tb_c mt_X3_statement bf_X3_statement_42 (tb_c mt_X3_statement bf_X3_statement_50 (tb_c mt_X3_statement bf_X3_statement_61 (tb_c mt_X3_statement bf_X3_statement_135 (tb_c mt_X3_statement bf_X3_statement_162 (tb_c mt_X3_statement bf_X3_statement_163 (tb_c mt_X3_statement bf_X3_statement_191 (tb_n))))))))))))
theorem bf_X0_isStatement_0 : BOKt mt tX0_isStatement 128 0 b_X0_isStatement_0 := by
  refine bplain (pc' := 1) rfl dX0_isStatement_0 rfl (ihN rfl) rfl ?_
  refine bplain (pc' := 2) rfl dX0_isStatement_1 rfl (ihN rfl) rfl ?_
  refine bplain (pc' := 3) rfl dX0_isStatement_2 rfl (ihN rfl) rfl ?_
  refine bplain (pc' := 4) rfl dX0_isStatement_3 rfl (ihN rfl) rfl ?_
  refine bthr (pc' := 7) rfl dX0_isStatement_4 rfl (lkf0 q1115 lf_116) (trivial) (ihN rfl) rfl ?_
  refine bcall (pc' := 10) rfl dX0_isStatement_7 rfl (trivial) (lcv (n := 0) rfl (pvc (lfv mt_J20_size ⟨by decide, by decide⟩ mok_J20_size ⟨by decide, by decide⟩ ⟨q1648, ln_40, Or.inl ⟨q1647, Or.inl q1649⟩⟩) (trivial)) (Or.inl (by decide))) (ihN rfl) rfl ?_
  refine bplain (pc' := 11) rfl dX0_isStatement_10 rfl (ihN rfl) rfl ?_
  refine bplain (pc' := 12) rfl dX0_isStatement_11 rfl (ihN rfl) rfl ?_
  refine bplain (pc' := 13) rfl dX0_isStatement_12 rfl (ihN rfl) rfl ?_
  refine bcall (pc' := 16) rfl dX0_isStatement_13 rfl (trivial) (lcs (l := q1214) mt_X0_in ⟨by decide, by decide⟩ mok_X0_in rfl ln_210 (Or.inl q1213)) (ihN rfl) rfl ?_
  refine bret (pc' := 17) rfl dX0_isStatement_16 rfl (Or.inr ⟨rfl, rfl⟩) (ihN rfl) rfl ?_
  exact trivial
theorem tf_X0_isStatement : ∀ x ∈ tb_X0_isStatement, BOK mt 128 x.1 x.2 := tb_c mt_X0_isStatement bf_X0_isStatement_0 (tb_n)
theorem bf_X0_isReference_0 : BOKt mt tX0_isReference 129 0 b_X0_isReference_0 := by
  refine bplain (pc' := 1) rfl dX0_isReference_0 rfl (ihN rfl) rfl ?_
  refine bplain (pc' := 2) rfl dX0_isReference_1 rfl (ihN rfl) rfl ?_
  refine bcall (pc' := 5) rfl dX0_isReference_2 rfl (trivial) (lcv (n := 1) rfl (pvc (lfv mt_X0_isStatement ⟨by decide, by decide⟩ mok_X0_isStatement ⟨by decide, by decide⟩ ⟨q1773, ln_222, Or.inl ⟨q1771, Or.inl qs16⟩⟩) (trivial)) (Or.inl (by decide))) (ihN rfl) rfl ?_
  refine bjmp (tg := 24) (pc' := 8) rfl (by decide) (by decide) rfl dX0_isReference_5 rfl (ihN rfl) rfl ?_
  refine bplain (pc' := 9) rfl dX0_isReference_8 rfl (ihN rfl) rfl ?_
  refine bplain (pc' := 10) rfl dX0_isReference_9 rfl (ihN rfl) rfl ?_
  refine bplain (pc' := 11) rfl dX0_isReference_10 rfl (ihN rfl) rfl ?_
  refine bobj (pc' := 14) rfl dX0_isReference_11 rfl (lkq0 lc_336 q1775) (ihN rfl) rfl ?_
  refine bcall (pc' := 17) rfl dX0_isReference_14 rfl (trivial) (lcs (l := q1214) mt_X0_in ⟨by decide, by decide⟩ mok_X0_in rfl ln_210 (Or.inl q1213)) (ihN rfl) rfl ?_
  refine bjmp (tg := 24) (pc' := 20) rfl (by decide) (by decide) rfl dX0_isReference_17 rfl (ihN rfl) rfl ?_
  refine bplain (pc' := 21) rfl dX0_isReference_20 rfl (ihN rfl) rfl ?_
  refine bjmp (tg := 25) (pc' := 24) rfl (by decide) (by decide) rfl dX0_isReference_21 rfl (ihN rfl) rfl ?_
  exact trivial
theorem bf_X0_isReference_24 : BOKt mt tX0_isReference 129 24 b_X0_isReference_24 := by
  refine bnop1 ?_
  refine bplain (pc' := 25) rfl dX0_isReference_24 rfl (ihN rfl) rfl ?_
  exact bnop0 rfl (by decide)
theorem bf_X0_isReference_25 : BOKt mt tX0_isReference 129 25 b_X0_isReference_25 := by
  refine bnop1 ?_
  refine bret (pc' := 26) rfl dX0_isReference_25 rfl (Or.inr ⟨rfl, rfl⟩) (ihN rfl) rfl ?_
  exact trivial
theorem tf_X0_isReference : ∀ x ∈ tb_X0_isReference, BOK mt 129 x.1 x.2 := tb_c mt_X0_isReference bf_X0_isReference_0 (tb_c mt_X0_isReference bf_X0_isReference_24 (tb_c mt_X0_isReference bf_X0_isReference_25 (tb_n)))
theorem bf_J12_checkIndex_0 : BOKt mt tJ12_checkIndex 130 0 b_J12_checkIndex_0 := by
  refine bplain (pc' := 1) rfl dJ12_checkIndex_0 rfl (ihN rfl) rfl ?_
  refine bjmp (tg := 9) (pc' := 4) rfl (by decide) (by decide) rfl dJ12_checkIndex_1 rfl (ihN rfl) rfl ?_
  refine bplain (pc' := 5) rfl dJ12_checkIndex_4 rfl (ihN rfl) rfl ?_
  refine bplain (pc' := 6) rfl dJ12_checkIndex_5 rfl (ihN rfl) rfl ?_
  refine bjmp (tg := 16) (pc' := 9) rfl (by decide) (by decide) rfl dJ12_checkIndex_6 rfl (ihN rfl) rfl ?_
  exact bnop0 rfl (by decide)
theorem bf_J12_checkIndex_9 : BOKt mt tJ12_checkIndex 130 9 b_J12_checkIndex_9 := by
  refine bplain (pc' := 10) rfl dJ12_checkIndex_9 rfl (ihN rfl) rfl ?_
  refine bplain (pc' := 11) rfl dJ12_checkIndex_10 rfl (ihN rfl) rfl ?_
  refine bplain (pc' := 12) rfl dJ12_checkIndex_11 rfl (ihN rfl) rfl ?_
  refine bcall (pc' := 15) rfl dJ12_checkIndex_12 rfl (trivial) (trivial) (ihN rfl) rfl ?_
  refine bplain (pc' := 16) rfl dJ12_checkIndex_15 rfl (ihN rfl) rfl ?_
  exact trivial
theorem bf_J12_checkIndex_16 : BOKt mt tJ12_checkIndex 130 16 b_J12_checkIndex_16 := by
  refine bplain (pc' := 17) rfl dJ12_checkIndex_16 rfl (ihN rfl) rfl ?_
  refine bret (pc' := 18) rfl dJ12_checkIndex_17 rfl (Or.inl ⟨rfl, rfl⟩) (ihN rfl) rfl ?_
  exact trivial
theorem tf_J12_checkIndex : ∀ x ∈ tb_J12_checkIndex, BOK mt 130 x.1 x.2 := tb_c mt_J12_checkIndex bf_J12_checkIndex_0 (tb_c mt_J12_checkIndex bf_J12_checkIndex_9 (tb_c mt_J12_checkIndex bf_J12_checkIndex_16 (tb_n)))
theorem bf_J33_checkIndex_0 : BOKt mt tJ33_checkIndex 131 0 b_J33_checkIndex_0 := by
  refine bplain (pc' := 1) rfl dJ33_checkIndex_0 rfl (ihN rfl) rfl ?_
  refine bplain (pc' := 2) rfl dJ33_checkIndex_1 rfl (ihN rfl) rfl ?_
  refine bplain (pc' := 3) rfl dJ33_checkIndex_2 rfl (ihN rfl) rfl ?_
  refine bcall (pc' := 6) rfl dJ33_checkIndex_3 rfl (trivial) (lcs (l := q1570) mt_J12_checkIndex ⟨by decide, by decide⟩ mok_J12_checkIndex rfl ln_337 (Or.inl q1757)) (ihN rfl) rfl ?_
  refine bret (pc' := 7) rfl dJ33_checkIndex_6 rfl (Or.inl ⟨rfl, rfl⟩) (ihN rfl) rfl ?_
  exact trivial
theorem tf_J33_checkIndex : ∀ x ∈ tb_J33_checkIndex, BOK mt 131 x.1 x.2 := tb_c mt_J33_checkIndex bf_J33_checkIndex_0 (tb_n)
theorem bf_J20_elementData_0 : BOKt mt tJ20_elementData 132 0 b_J20_elementData_0 := by
  refine bplain (pc' := 1) rfl dJ20_elementData_0 rfl (ihN rfl) rfl ?_
  refine bthr (pc' := 4) rfl dJ20_elementData_1 rfl (lkf0 q1040 lf_100) (trivial) (ihN rfl) rfl ?_
  refine bplain (pc' := 5) rfl dJ20_elementData_4 rfl (ihN rfl) rfl ?_
  refine bplain (pc' := 6) rfl dJ20_elementData_5 rfl (ihN rfl) rfl ?_
  refine bret (pc' := 7) rfl dJ20_elementData_6 rfl (⟨_, rfl, Or.inl ⟨_, rfl⟩⟩) (ihN rfl) rfl ?_
  exact trivial
theorem tf_J20_elementData : ∀ x ∈ tb_J20_elementData, BOK mt 132 x.1 x.2 := tb_c mt_J20_elementData bf_J20_elementData_0 (tb_n)
theorem bf_J20_get_0 : BOKt mt tJ20_get 133 0 b_J20_get_0 := by
  refine bplain (pc' := 1) rfl dJ20_get_0 rfl (ihN rfl) rfl ?_
  refine bplain (pc' := 2) rfl dJ20_get_1 rfl (ihN rfl) rfl ?_
  refine bthr (pc' := 5) rfl dJ20_get_2 rfl (lkf0 q1043 lf_307) (trivial) (ihN rfl) rfl ?_
  refine bcall (pc' := 8) rfl dJ20_get_5 rfl (trivial) (lcs (l := q1755) mt_J33_checkIndex ⟨by decide, by decide⟩ mok_J33_checkIndex rfl ln_252 (Or.inl q1754)) (ihN rfl) rfl ?_
  refine bplain (pc' := 9) rfl dJ20_get_8 rfl (ihN rfl) rfl ?_
  refine bplain (pc' := 10) rfl dJ20_get_9 rfl (ihN rfl) rfl ?_
  refine bplain (pc' := 11) rfl dJ20_get_10 rfl (ihN rfl) rfl ?_
  refine bcall (pc' := 14) rfl dJ20_get_11 rfl (trivial) (lcv (n := 1) rfl (pvc (lfv mt_J20_elementData ⟨by decide, by decide⟩ mok_J20_elementData ⟨by decide, by decide⟩ ⟨q1781, ln_338, Or.inl ⟨q1780, Or.inl q1782⟩⟩) (trivial)) (Or.inl (by decide))) (ihN rfl) rfl ?_
  refine bret (pc' := 15) rfl dJ20_get_14 rfl (⟨_, rfl, Or.inl ⟨_, rfl⟩⟩) (ihN rfl) rfl ?_
  exact trivial
theorem tf_J20_get : ∀ x ∈ tb_J20_get, BOK mt 133 x.1 x.2 := tb_c mt_J20_get bf_J20_get_0 (tb_n)
theorem bf_X6_at_0 : BOKt mt tX6_at 134 0 b_X6_at_0 := by
  refine bplain (pc' := 1) rfl dX6_at_0 rfl (ihN rfl) rfl ?_
  refine bthr (pc' := 4) rfl dX6_at_1 rfl (lkf0 q1700 lf_314) (trivial) (ihN rfl) rfl ?_
  refine bplain (pc' := 5) rfl dX6_at_4 rfl (ihN rfl) rfl ?_
  refine bplain (pc' := 6) rfl dX6_at_5 rfl (ihN rfl) rfl ?_
  refine bret (pc' := 7) rfl dX6_at_6 rfl (⟨_, rfl, Or.inl ⟨_, rfl⟩⟩) (ihN rfl) rfl ?_
  exact trivial
theorem tf_X6_at : ∀ x ∈ tb_X6_at, BOK mt 134 x.1 x.2 := tb_c mt_X6_at bf_X6_at_0 (tb_n)
theorem bf_X0_refer_0 : BOKt mt tX0_refer 135 0 b_X0_refer_0 := by
  refine bplain (pc' := 1) rfl dX0_refer_0 rfl (ihN rfl) rfl ?_
  refine bplain (pc' := 2) rfl dX0_refer_1 rfl (ihN rfl) rfl ?_
  refine bplain (pc' := 3) rfl dX0_refer_2 rfl (ihN rfl) rfl ?_
  refine bcall (pc' := 6) rfl dX0_refer_3 rfl (trivial) (lcv (n := 2) rfl (pvc (lfv mt_X0_isReference ⟨by decide, by decide⟩ mok_X0_isReference ⟨by decide, by decide⟩ ⟨q1769, ln_339, Or.inl ⟨q1767, Or.inl qs15⟩⟩) (trivial)) (Or.inl (by decide))) (ihN rfl) rfl ?_
  refine bjmp (tg := 25) (pc' := 9) rfl (by decide) (by decide) rfl dX0_refer_6 rfl (ihN rfl) rfl ?_
  refine bplain (pc' := 10) rfl dX0_refer_9 rfl (ihN rfl) rfl ?_
  refine bcall (pc' := 13) rfl dX0_refer_10 rfl (trivial) (lcs (l := q1210) mt_X0_isRow ⟨by decide, by decide⟩ mok_X0_isRow rfl ln_222 (Or.inl q1209)) (ihN rfl) rfl ?_
  refine bjmp (tg := 28) (pc' := 16) rfl (by decide) (by decide) rfl dX0_refer_13 rfl (ihN rfl) rfl ?_
  refine bplain (pc' := 17) rfl dX0_refer_16 rfl (ihN rfl) rfl ?_
  refine bplain (pc' := 18) rfl dX0_refer_17 rfl (ihN rfl) rfl ?_
  refine bjmp (tg := 25) (pc' := 21) rfl (by decide) (by decide) rfl dX0_refer_18 rfl (ihN rfl) rfl ?_
  refine bplain (pc' := 22) rfl dX0_refer_21 rfl (ihN rfl) rfl ?_
  refine bjmp (tg := 28) (pc' := 25) rfl (by decide) (by decide) rfl dX0_refer_22 rfl (ihN rfl) rfl ?_
  exact bnop0 rfl (by decide)
theorem bf_X0_refer_25 : BOKt mt tX0_refer 135 25 b_X0_refer_25 := by
  refine bnop1 ?_
  refine bplain (pc' := 27) rfl dX0_refer_25 rfl (ihN rfl) rfl ?_
  refine bret (pc' := 28) rfl dX0_refer_27 rfl (Or.inl ⟨rfl, rfl⟩) (ihN rfl) rfl ?_
  exact trivial
theorem bf_X0_refer_28 : BOKt mt tX0_refer 135 28 b_X0_refer_28 := by
  refine bnop1 ?_
  refine bplain (pc' := 29) rfl dX0_refer_28 rfl (ihN rfl) rfl ?_
  refine bthr (pc' := 32) rfl dX0_refer_29 rfl (lkf0 q1115 lf_116) (trivial) (ihN rfl) rfl ?_
  refine bplain (pc' := 33) rfl dX0_refer_32 rfl (ihN rfl) rfl ?_
  refine bcall (pc' := 36) rfl dX0_refer_33 rfl (trivial) (lcv (n := 1) rfl (pvc (lfv mt_J20_get ⟨by decide, by decide⟩ mok_J20_get ⟨by decide, by decide⟩ ⟨q1777, ln_338, Or.inl ⟨q1776, Or.inl q1778⟩⟩) (trivial)) (Or.inl (by decide))) (ihN rfl) rfl ?_
  refine bthr (pc' := 39) rfl dX0_refer_36 rfl (lkc (nm := "StrideTurns$Statement") q1651 lg_340 lb_341) (Or.inl rfl) (ihN rfl) rfl ?_
  refine bplain (pc' := 40) rfl dX0_refer_39 rfl (ihN rfl) rfl ?_
  refine bcall (pc' := 43) rfl dX0_refer_40 rfl (trivial) (lcv (n := 1) rfl (pvc (lfv mt_X6_at ⟨by decide, by decide⟩ mok_X6_at ⟨by decide, by decide⟩ ⟨q1785, ln_342, Or.inl ⟨q1784, Or.inl q1786⟩⟩) (trivial)) (Or.inl (by decide))) (ihN rfl) rfl ?_
  refine bplain (pc' := 45) rfl dX0_refer_43 rfl (ihN rfl) rfl ?_
  refine bplain (pc' := 47) rfl dX0_refer_45 rfl (ihN rfl) rfl ?_
  refine bthr (pc' := 50) rfl dX0_refer_47 rfl (lkf1 (host := "StrideTurns") (by decide) q1669 lf_310) (trivial) (ihN rfl) rfl ?_
  refine bplain (pc' := 52) rfl dX0_refer_50 rfl (ihN rfl) rfl ?_
  refine bplain (pc' := 54) rfl dX0_refer_52 rfl (ihN rfl) rfl ?_
  refine bplain (pc' := 55) rfl dX0_refer_54 rfl (ihN rfl) rfl ?_
  refine bobj (pc' := 58) rfl dX0_refer_55 rfl (⟨lkf1 (host := "StrideTurns") (by decide) q1669 lf_310, lkp0 lp_311⟩) (ihN rfl) rfl ?_
  refine bplain (pc' := 59) rfl dX0_refer_58 rfl (ihN rfl) rfl ?_
  refine bplain (pc' := 61) rfl dX0_refer_59 rfl (ihN rfl) rfl ?_
  refine bplain (pc' := 63) rfl dX0_refer_61 rfl (ihN rfl) rfl ?_
  refine bcall (pc' := 68) rfl dX0_refer_63 rfl (trivial) (⟨34, rfl, ⟨⟨by decide, by decide⟩, rfl, rfl, rfl⟩, (fun h => nomatch h), rfl, rfl, capl_of (by rfl)⟩) (ihN rfl) rfl ?_
  refine bcall (pc' := 71) rfl dX0_refer_68 rfl (trivial) (lcv (n := 1) rfl (pvc (lfv mt_X0_tells ⟨by decide, by decide⟩ mok_X0_tells ⟨by decide, by decide⟩ ⟨q1391, ln_267, Or.inl ⟨q1389, Or.inl qs6⟩⟩) (trivial)) (Or.inl (by decide))) (ihN rfl) rfl ?_
  refine bplain (pc' := 73) rfl dX0_refer_71 rfl (ihN rfl) rfl ?_
  refine bret (pc' := 74) rfl dX0_refer_73 rfl (Or.inl ⟨rfl, rfl⟩) (ihN rfl) rfl ?_
  exact trivial
theorem tf_X0_refer : ∀ x ∈ tb_X0_refer, BOK mt 135 x.1 x.2 := tb_c mt_X0_refer bf_X0_refer_0 (tb_c mt_X0_refer bf_X0_refer_25 (tb_c mt_X0_refer bf_X0_refer_28 (tb_n)))
theorem bf_X3_isStatement_0 : BOKt mt tX3_isStatement 136 0 b_X3_isStatement_0 := by
  refine bplain (pc' := 1) rfl dX3_isStatement_0 rfl (ihN rfl) rfl ?_
  refine bplain (pc' := 2) rfl dX3_isStatement_1 rfl (ihN rfl) rfl ?_
  refine bplain (pc' := 3) rfl dX3_isStatement_2 rfl (ihN rfl) rfl ?_
  refine bthr (pc' := 6) rfl dX3_isStatement_3 rfl (lkf0 q2604 lf_334) (trivial) (ihN rfl) rfl ?_
  refine bplain (pc' := 7) rfl dX3_isStatement_6 rfl (ihN rfl) rfl ?_
  refine bplain (pc' := 8) rfl dX3_isStatement_7 rfl (ihN rfl) rfl ?_
  refine bcall (pc' := 11) rfl dX3_isStatement_8 rfl (trivial) (lcs (l := q2747) mt_X3_in ⟨by decide, by decide⟩ mok_X3_in rfl ln_226 (Or.inl q2746)) (ihN rfl) rfl ?_
  refine bret (pc' := 12) rfl dX3_isStatement_11 rfl (Or.inr ⟨rfl, rfl⟩) (ihN rfl) rfl ?_
  exact trivial
theorem tf_X3_isStatement : ∀ x ∈ tb_X3_isStatement, BOK mt 136 x.1 x.2 := tb_c mt_X3_isStatement bf_X3_isStatement_0 (tb_n)
theorem bf_X3_refer_0 : BOKt mt tX3_refer 137 0 b_X3_refer_0 := by
  refine bplain (pc' := 1) rfl dX3_refer_0 rfl (ihN rfl) rfl ?_
  refine bplain (pc' := 2) rfl dX3_refer_1 rfl (ihN rfl) rfl ?_
  refine bcall (pc' := 5) rfl dX3_refer_2 rfl (trivial) (lcv (n := 1) rfl (pvc (lfv mt_X3_isStatement ⟨by decide, by decide⟩ mok_X3_isStatement ⟨by decide, by decide⟩ ⟨q2822, ln_222, Or.inl ⟨q2820, Or.inl qs69⟩⟩) (trivial)) (Or.inl (by decide))) (ihN rfl) rfl ?_
  refine bjmp (tg := 34) (pc' := 8) rfl (by decide) (by decide) rfl dX3_refer_5 rfl (ihN rfl) rfl ?_
  refine bplain (pc' := 9) rfl dX3_refer_8 rfl (ihN rfl) rfl ?_
  refine bplain (pc' := 10) rfl dX3_refer_9 rfl (ihN rfl) rfl ?_
  refine bplain (pc' := 11) rfl dX3_refer_10 rfl (ihN rfl) rfl ?_
  refine bcall (pc' := 14) rfl dX3_refer_11 rfl (trivial) (lcs (l := q2747) mt_X3_in ⟨by decide, by decide⟩ mok_X3_in rfl ln_226 (Or.inl q2746)) (ihN rfl) rfl ?_
  refine bjmp (tg := 34) (pc' := 17) rfl (by decide) (by decide) rfl dX3_refer_14 rfl (ihN rfl) rfl ?_
  refine bplain (pc' := 18) rfl dX3_refer_17 rfl (ihN rfl) rfl ?_
  refine bplain (pc' := 19) rfl dX3_refer_18 rfl (ihN rfl) rfl ?_
  refine bjmp (tg := 26) (pc' := 22) rfl (by decide) (by decide) rfl dX3_refer_19 rfl (ihN rfl) rfl ?_
  refine bplain (pc' := 23) rfl dX3_refer_22 rfl (ihN rfl) rfl ?_
  refine bjmp (tg := 27) (pc' := 26) rfl (by decide) (by decide) rfl dX3_refer_23 rfl (ihN rfl) rfl ?_
  exact trivial
theorem bf_X3_refer_26 : BOKt mt tX3_refer 137 26 b_X3_refer_26 := by
  refine bplain (pc' := 27) rfl dX3_refer_26 rfl (ihN rfl) rfl ?_
  exact bnop0 rfl (by decide)
theorem bf_X3_refer_27 : BOKt mt tX3_refer 137 27 b_X3_refer_27 := by
  refine bnop1 ?_
  refine bplain (pc' := 28) rfl dX3_refer_27 rfl (ihN rfl) rfl ?_
  refine bcall (pc' := 31) rfl dX3_refer_28 rfl (trivial) (lcs (l := q2747) mt_X3_in ⟨by decide, by decide⟩ mok_X3_in rfl ln_226 (Or.inl q2746)) (ihN rfl) rfl ?_
  refine bjmp (tg := 37) (pc' := 34) rfl (by decide) (by decide) rfl dX3_refer_31 rfl (ihN rfl) rfl ?_
  exact bnop0 rfl (by decide)
theorem bf_X3_refer_34 : BOKt mt tX3_refer 137 34 b_X3_refer_34 := by
  refine bnop1 ?_
  refine bplain (pc' := 36) rfl dX3_refer_34 rfl (ihN rfl) rfl ?_
  refine bret (pc' := 37) rfl dX3_refer_36 rfl (Or.inl ⟨rfl, rfl⟩) (ihN rfl) rfl ?_
  exact trivial
theorem bf_X3_refer_37 : BOKt mt tX3_refer 137 37 b_X3_refer_37 := by
  refine bplain (pc' := 38) rfl dX3_refer_37 rfl (ihN rfl) rfl ?_
  refine bthr (pc' := 41) rfl dX3_refer_38 rfl (lkf0 q2610 lf_165) (trivial) (ihN rfl) rfl ?_
  refine bplain (pc' := 42) rfl dX3_refer_41 rfl (ihN rfl) rfl ?_
  refine bplain (pc' := 43) rfl dX3_refer_42 rfl (ihN rfl) rfl ?_
  refine bplain (pc' := 44) rfl dX3_refer_43 rfl (ihN rfl) rfl ?_
  refine bplain (pc' := 45) rfl dX3_refer_44 rfl (ihN rfl) rfl ?_
  refine bplain (pc' := 46) rfl dX3_refer_45 rfl (ihN rfl) rfl ?_
  refine bplain (pc' := 47) rfl dX3_refer_46 rfl (ihN rfl) rfl ?_
  refine bplain (pc' := 49) rfl dX3_refer_47 rfl (ihN rfl) rfl ?_
  refine bplain (pc' := 50) rfl dX3_refer_49 rfl (ihN rfl) rfl ?_
  refine bplain (pc' := 51) rfl dX3_refer_50 rfl (ihN rfl) rfl ?_
  refine bplain (pc' := 52) rfl dX3_refer_51 rfl (ihN rfl) rfl ?_
  refine bplain (pc' := 53) rfl dX3_refer_52 rfl (ihN rfl) rfl ?_
  refine bplain (pc' := 54) rfl dX3_refer_53 rfl (ihN rfl) rfl ?_
  refine bplain (pc' := 55) rfl dX3_refer_54 rfl (ihN rfl) rfl ?_
  refine bplain (pc' := 56) rfl dX3_refer_55 rfl (ihN rfl) rfl ?_
  refine bplain (pc' := 58) rfl dX3_refer_56 rfl (ihN rfl) rfl ?_
  refine bplain (pc' := 59) rfl dX3_refer_58 rfl (ihN rfl) rfl ?_
  refine bplain (pc' := 60) rfl dX3_refer_59 rfl (ihN rfl) rfl ?_
  refine bcall (pc' := 63) rfl dX3_refer_60 rfl (trivial) (lcv (n := 5) rfl (pvc (lfv mt_X3_logs ⟨by decide, by decide⟩ mok_X3_logs ⟨by decide, by decide⟩ ⟨q2794, ln_275, Or.inl ⟨q2792, Or.inl qs66⟩⟩) (trivial)) (Or.inl (by decide))) (ihN rfl) rfl ?_
  refine bplain (pc' := 64) rfl dX3_refer_63 rfl (ihN rfl) rfl ?_
  refine bthr (pc' := 67) rfl dX3_refer_64 rfl (lkf0 q2610 lf_165) (trivial) (ihN rfl) rfl ?_
  refine bplain (pc' := 68) rfl dX3_refer_67 rfl (ihN rfl) rfl ?_
  refine bplain (pc' := 69) rfl dX3_refer_68 rfl (ihN rfl) rfl ?_
  refine bplain (pc' := 70) rfl dX3_refer_69 rfl (ihN rfl) rfl ?_
  refine bplain (pc' := 71) rfl dX3_refer_70 rfl (ihN rfl) rfl ?_
  refine bplain (pc' := 72) rfl dX3_refer_71 rfl (ihN rfl) rfl ?_
  refine bplain (pc' := 73) rfl dX3_refer_72 rfl (ihN rfl) rfl ?_
  refine bplain (pc' := 74) rfl dX3_refer_73 rfl (ihN rfl) rfl ?_
  refine bplain (pc' := 76) rfl dX3_refer_74 rfl (ihN rfl) rfl ?_
  refine bret (pc' := 77) rfl dX3_refer_76 rfl (Or.inl ⟨rfl, rfl⟩) (ihN rfl) rfl ?_
  exact trivial
theorem tf_X3_refer : ∀ x ∈ tb_X3_refer, BOK mt 137 x.1 x.2 := tb_c mt_X3_refer bf_X3_refer_0 (tb_c mt_X3_refer bf_X3_refer_26 (tb_c mt_X3_refer bf_X3_refer_27 (tb_c mt_X3_refer bf_X3_refer_34 (tb_c mt_X3_refer bf_X3_refer_37 (tb_n)))))
theorem bf_X7_moves_0 : BOKt mt tX7_moves 138 0 b_X7_moves_0 := by
  refine bplain (pc' := 1) rfl dX7_moves_0 rfl (ihN rfl) rfl ?_
  refine bplain (pc' := 2) rfl dX7_moves_1 rfl (ihN rfl) rfl ?_
  refine bobj (pc' := 5) rfl dX7_moves_2 rfl (⟨lkf0 q1670 lf_343, lkp0 lp_344⟩) (ihN rfl) rfl ?_
  refine bplain (pc' := 6) rfl dX7_moves_5 rfl (ihN rfl) rfl ?_
  refine bplain (pc' := 7) rfl dX7_moves_6 rfl (ihN rfl) rfl ?_
  refine bobj (pc' := 10) rfl dX7_moves_7 rfl (⟨lkf0 q1672 lf_345, lkp0 lp_346⟩) (ihN rfl) rfl ?_
  refine bplain (pc' := 11) rfl dX7_moves_10 rfl (ihN rfl) rfl ?_
  refine bplain (pc' := 12) rfl dX7_moves_11 rfl (ihN rfl) rfl ?_
  refine bobj (pc' := 15) rfl dX7_moves_12 rfl (⟨lkf0 q1674 lf_347, lkp0 lp_348⟩) (ihN rfl) rfl ?_
  refine bplain (pc' := 16) rfl dX7_moves_15 rfl (ihN rfl) rfl ?_
  refine bplain (pc' := 17) rfl dX7_moves_16 rfl (ihN rfl) rfl ?_
  refine bplain (pc' := 18) rfl dX7_moves_17 rfl (ihN rfl) rfl ?_
  refine bplain (pc' := 19) rfl dX7_moves_18 rfl (ihN rfl) rfl ?_
  refine bcall (pc' := 24) rfl dX7_moves_19 rfl (trivial) (⟨35, rfl, ⟨⟨by decide, by decide⟩, rfl, rfl, rfl⟩, (fun h => nomatch h), rfl, rfl, capl_of (by rfl)⟩) (ihN rfl) rfl ?_
  refine bobj (pc' := 27) rfl dX7_moves_24 rfl (⟨lkf0 q1677 lf_308, lkp0 lp_309⟩) (ihN rfl) rfl ?_
  refine bret (pc' := 28) rfl dX7_moves_27 rfl (rfl) (ihN rfl) rfl ?_
  exact trivial
theorem tf_X7_moves : ∀ x ∈ tb_X7_moves, BOK mt 138 x.1 x.2 := tb_c mt_X7_moves bf_X7_moves_0 (tb_n)
theorem bf_X0_place_0 : BOKt mt tX0_place 139 0 b_X0_place_0 := by
  refine bplain (pc' := 1) rfl dX0_place_0 rfl (ihN rfl) rfl ?_
  refine bplain (pc' := 2) rfl dX0_place_1 rfl (ihN rfl) rfl ?_
  refine bplain (pc' := 3) rfl dX0_place_2 rfl (ihN rfl) rfl ?_
  refine bcall (pc' := 6) rfl dX0_place_3 rfl (trivial) (lcv (n := 2) rfl (pvc (lfv mt_X0_isReference ⟨by decide, by decide⟩ mok_X0_isReference ⟨by decide, by decide⟩ ⟨q1769, ln_339, Or.inl ⟨q1767, Or.inl qs15⟩⟩) (trivial)) (Or.inl (by decide))) (ihN rfl) rfl ?_
  refine bjmp (tg := 53) (pc' := 9) rfl (by decide) (by decide) rfl dX0_place_6 rfl (ihN rfl) rfl ?_
  refine bplain (pc' := 10) rfl dX0_place_9 rfl (ihN rfl) rfl ?_
  refine bplain (pc' := 11) rfl dX0_place_10 rfl (ihN rfl) rfl ?_
  refine bobj (pc' := 14) rfl dX0_place_11 rfl (lkq0 lc_349 q1794) (ihN rfl) rfl ?_
  refine bobj (pc' := 17) rfl dX0_place_14 rfl (lkq0 lc_350 q1795) (ihN rfl) rfl ?_
  refine bcall (pc' := 20) rfl dX0_place_17 rfl (trivial) (lcs (l := q1214) mt_X0_in ⟨by decide, by decide⟩ mok_X0_in rfl ln_210 (Or.inl q1213)) (ihN rfl) rfl ?_
  refine bjmp (tg := 53) (pc' := 23) rfl (by decide) (by decide) rfl dX0_place_20 rfl (ihN rfl) rfl ?_
  refine bplain (pc' := 25) rfl dX0_place_23 rfl (ihN rfl) rfl ?_
  refine bplain (pc' := 26) rfl dX0_place_25 rfl (ihN rfl) rfl ?_
  refine bobj (pc' := 29) rfl dX0_place_26 rfl (lkq0 lc_351 q1796) (ihN rfl) rfl ?_
  refine bobj (pc' := 32) rfl dX0_place_29 rfl (lkq0 lc_352 q1797) (ihN rfl) rfl ?_
  refine bcall (pc' := 35) rfl dX0_place_32 rfl (trivial) (lcs (l := q1214) mt_X0_in ⟨by decide, by decide⟩ mok_X0_in rfl ln_210 (Or.inl q1213)) (ihN rfl) rfl ?_
  refine bjmp (tg := 53) (pc' := 38) rfl (by decide) (by decide) rfl dX0_place_35 rfl (ihN rfl) rfl ?_
  refine bplain (pc' := 40) rfl dX0_place_38 rfl (ihN rfl) rfl ?_
  refine bplain (pc' := 41) rfl dX0_place_40 rfl (ihN rfl) rfl ?_
  refine bobj (pc' := 44) rfl dX0_place_41 rfl (lkq0 lc_351 q1796) (ihN rfl) rfl ?_
  refine bobj (pc' := 47) rfl dX0_place_44 rfl (lkq0 lc_352 q1797) (ihN rfl) rfl ?_
  refine bcall (pc' := 50) rfl dX0_place_47 rfl (trivial) (lcs (l := q1214) mt_X0_in ⟨by decide, by decide⟩ mok_X0_in rfl ln_210 (Or.inl q1213)) (ihN rfl) rfl ?_
  refine bjmp (tg := 56) (pc' := 53) rfl (by decide) (by decide) rfl dX0_place_50 rfl (ihN rfl) rfl ?_
  exact bnop0 rfl (by decide)
theorem bf_X0_place_53 : BOKt mt tX0_place 139 53 b_X0_place_53 := by
  refine bnop1 ?_
  refine bplain (pc' := 55) rfl dX0_place_53 rfl (ihN rfl) rfl ?_
  refine bret (pc' := 56) rfl dX0_place_55 rfl (Or.inl ⟨rfl, rfl⟩) (ihN rfl) rfl ?_
  exact trivial
theorem bf_X0_place_56 : BOKt mt tX0_place 139 56 b_X0_place_56 := by
  refine bplain (pc' := 57) rfl dX0_place_56 rfl (ihN rfl) rfl ?_
  refine bthr (pc' := 60) rfl dX0_place_57 rfl (lkf0 q1115 lf_116) (trivial) (ihN rfl) rfl ?_
  refine bplain (pc' := 61) rfl dX0_place_60 rfl (ihN rfl) rfl ?_
  refine bcall (pc' := 64) rfl dX0_place_61 rfl (trivial) (lcv (n := 1) rfl (pvc (lfv mt_J20_get ⟨by decide, by decide⟩ mok_J20_get ⟨by decide, by decide⟩ ⟨q1777, ln_338, Or.inl ⟨q1776, Or.inl q1778⟩⟩) (trivial)) (Or.inl (by decide))) (ihN rfl) rfl ?_
  refine bthr (pc' := 67) rfl dX0_place_64 rfl (lkc (nm := "StrideTurns$Statement") q1651 lg_340 lb_341) (Or.inl rfl) (ihN rfl) rfl ?_
  refine bplain (pc' := 68) rfl dX0_place_67 rfl (ihN rfl) rfl ?_
  refine bcall (pc' := 71) rfl dX0_place_68 rfl (trivial) (lcv (n := 1) rfl (pvc (lfv mt_X6_at ⟨by decide, by decide⟩ mok_X6_at ⟨by decide, by decide⟩ ⟨q1785, ln_342, Or.inl ⟨q1784, Or.inl q1786⟩⟩) (trivial)) (Or.inl (by decide))) (ihN rfl) rfl ?_
  refine bplain (pc' := 73) rfl dX0_place_71 rfl (ihN rfl) rfl ?_
  refine bplain (pc' := 75) rfl dX0_place_73 rfl (ihN rfl) rfl ?_
  refine bthr (pc' := 78) rfl dX0_place_75 rfl (lkf1 (host := "StrideTurns") (by decide) q1671 lf_343) (trivial) (ihN rfl) rfl ?_
  refine bplain (pc' := 80) rfl dX0_place_78 rfl (ihN rfl) rfl ?_
  refine bplain (pc' := 82) rfl dX0_place_80 rfl (ihN rfl) rfl ?_
  refine bthr (pc' := 85) rfl dX0_place_82 rfl (lkf1 (host := "StrideTurns") (by decide) q1673 lf_345) (trivial) (ihN rfl) rfl ?_
  refine bplain (pc' := 87) rfl dX0_place_85 rfl (ihN rfl) rfl ?_
  refine bplain (pc' := 89) rfl dX0_place_87 rfl (ihN rfl) rfl ?_
  refine bthr (pc' := 92) rfl dX0_place_89 rfl (lkf1 (host := "StrideTurns") (by decide) q1676 lf_347) (trivial) (ihN rfl) rfl ?_
  refine bplain (pc' := 94) rfl dX0_place_92 rfl (ihN rfl) rfl ?_
  refine bplain (pc' := 96) rfl dX0_place_94 rfl (ihN rfl) rfl ?_
  refine bplain (pc' := 97) rfl dX0_place_96 rfl (ihN rfl) rfl ?_
  refine bplain (pc' := 99) rfl dX0_place_97 rfl (ihN rfl) rfl ?_
  refine bplain (pc' := 101) rfl dX0_place_99 rfl (ihN rfl) rfl ?_
  refine bcall (pc' := 104) rfl dX0_place_101 rfl (trivial) (lcv (n := 3) rfl (pvc (lfv mt_X7_moves ⟨by decide, by decide⟩ mok_X7_moves ⟨by decide, by decide⟩ ⟨q1799, ln_237, Or.inl ⟨q1798, Or.inl q1800⟩⟩) (trivial)) (Or.inl (by decide))) (ihN rfl) rfl ?_
  refine bplain (pc' := 105) rfl dX0_place_104 rfl (ihN rfl) rfl ?_
  refine bplain (pc' := 107) rfl dX0_place_105 rfl (ihN rfl) rfl ?_
  refine bplain (pc' := 109) rfl dX0_place_107 rfl (ihN rfl) rfl ?_
  refine bplain (pc' := 111) rfl dX0_place_109 rfl (ihN rfl) rfl ?_
  refine bplain (pc' := 113) rfl dX0_place_111 rfl (ihN rfl) rfl ?_
  refine bcall (pc' := 118) rfl dX0_place_113 rfl (trivial) (⟨36, rfl, ⟨⟨by decide, by decide⟩, rfl, rfl, rfl⟩, (fun h => nomatch h), rfl, rfl, capl_of (by rfl)⟩) (ihN rfl) rfl ?_
  refine bcall (pc' := 121) rfl dX0_place_118 rfl (trivial) (lcv (n := 1) rfl (pvc (lfv mt_X0_tells ⟨by decide, by decide⟩ mok_X0_tells ⟨by decide, by decide⟩ ⟨q1391, ln_267, Or.inl ⟨q1389, Or.inl qs6⟩⟩) (trivial)) (Or.inl (by decide))) (ihN rfl) rfl ?_
  refine bplain (pc' := 122) rfl dX0_place_121 rfl (ihN rfl) rfl ?_
  refine bret (pc' := 123) rfl dX0_place_122 rfl (Or.inl ⟨rfl, rfl⟩) (ihN rfl) rfl ?_
  exact trivial
theorem tf_X0_place : ∀ x ∈ tb_X0_place, BOK mt 139 x.1 x.2 := tb_c mt_X0_place bf_X0_place_0 (tb_c mt_X0_place bf_X0_place_53 (tb_c mt_X0_place bf_X0_place_56 (tb_n)))
theorem bf_X3_place_0 : BOKt mt tX3_place 140 0 b_X3_place_0 := by
  refine bplain (pc' := 1) rfl dX3_place_0 rfl (ihN rfl) rfl ?_
  refine bplain (pc' := 2) rfl dX3_place_1 rfl (ihN rfl) rfl ?_
  refine bcall (pc' := 5) rfl dX3_place_2 rfl (trivial) (lcv (n := 1) rfl (pvc (lfv mt_X3_isStatement ⟨by decide, by decide⟩ mok_X3_isStatement ⟨by decide, by decide⟩ ⟨q2822, ln_222, Or.inl ⟨q2820, Or.inl qs69⟩⟩) (trivial)) (Or.inl (by decide))) (ihN rfl) rfl ?_
  refine bjmp (tg := 52) (pc' := 8) rfl (by decide) (by decide) rfl dX3_place_5 rfl (ihN rfl) rfl ?_
  refine bplain (pc' := 9) rfl dX3_place_8 rfl (ihN rfl) rfl ?_
  refine bplain (pc' := 10) rfl dX3_place_9 rfl (ihN rfl) rfl ?_
  refine bplain (pc' := 11) rfl dX3_place_10 rfl (ihN rfl) rfl ?_
  refine bcall (pc' := 14) rfl dX3_place_11 rfl (trivial) (lcs (l := q2747) mt_X3_in ⟨by decide, by decide⟩ mok_X3_in rfl ln_226 (Or.inl q2746)) (ihN rfl) rfl ?_
  refine bjmp (tg := 52) (pc' := 17) rfl (by decide) (by decide) rfl dX3_place_14 rfl (ihN rfl) rfl ?_
  refine bplain (pc' := 18) rfl dX3_place_17 rfl (ihN rfl) rfl ?_
  refine bplain (pc' := 20) rfl dX3_place_18 rfl (ihN rfl) rfl ?_
  refine bplain (pc' := 22) rfl dX3_place_20 rfl (ihN rfl) rfl ?_
  refine bcall (pc' := 25) rfl dX3_place_22 rfl (trivial) (lcs (l := q2747) mt_X3_in ⟨by decide, by decide⟩ mok_X3_in rfl ln_226 (Or.inl q2746)) (ihN rfl) rfl ?_
  refine bjmp (tg := 52) (pc' := 28) rfl (by decide) (by decide) rfl dX3_place_25 rfl (ihN rfl) rfl ?_
  refine bplain (pc' := 30) rfl dX3_place_28 rfl (ihN rfl) rfl ?_
  refine bplain (pc' := 32) rfl dX3_place_30 rfl (ihN rfl) rfl ?_
  refine bplain (pc' := 34) rfl dX3_place_32 rfl (ihN rfl) rfl ?_
  refine bcall (pc' := 37) rfl dX3_place_34 rfl (trivial) (lcs (l := q2747) mt_X3_in ⟨by decide, by decide⟩ mok_X3_in rfl ln_226 (Or.inl q2746)) (ihN rfl) rfl ?_
  refine bjmp (tg := 52) (pc' := 40) rfl (by decide) (by decide) rfl dX3_place_37 rfl (ihN rfl) rfl ?_
  refine bplain (pc' := 42) rfl dX3_place_40 rfl (ihN rfl) rfl ?_
  refine bplain (pc' := 44) rfl dX3_place_42 rfl (ihN rfl) rfl ?_
  refine bplain (pc' := 46) rfl dX3_place_44 rfl (ihN rfl) rfl ?_
  refine bcall (pc' := 49) rfl dX3_place_46 rfl (trivial) (lcs (l := q2747) mt_X3_in ⟨by decide, by decide⟩ mok_X3_in rfl ln_226 (Or.inl q2746)) (ihN rfl) rfl ?_
  refine bjmp (tg := 55) (pc' := 52) rfl (by decide) (by decide) rfl dX3_place_49 rfl (ihN rfl) rfl ?_
  exact bnop0 rfl (by decide)
theorem bf_X3_place_52 : BOKt mt tX3_place 140 52 b_X3_place_52 := by
  refine bnop1 ?_
  refine bplain (pc' := 54) rfl dX3_place_52 rfl (ihN rfl) rfl ?_
  refine bret (pc' := 55) rfl dX3_place_54 rfl (Or.inl ⟨rfl, rfl⟩) (ihN rfl) rfl ?_
  exact trivial
theorem bf_X3_place_55 : BOKt mt tX3_place 140 55 b_X3_place_55 := by
  refine bplain (pc' := 56) rfl dX3_place_55 rfl (ihN rfl) rfl ?_
  refine bplain (pc' := 57) rfl dX3_place_56 rfl (ihN rfl) rfl ?_
  refine bplain (pc' := 58) rfl dX3_place_57 rfl (ihN rfl) rfl ?_
  refine bplain (pc' := 59) rfl dX3_place_58 rfl (ihN rfl) rfl ?_
  refine bplain (pc' := 60) rfl dX3_place_59 rfl (ihN rfl) rfl ?_
  refine bplain (pc' := 62) rfl dX3_place_60 rfl (ihN rfl) rfl ?_
  refine bplain (pc' := 63) rfl dX3_place_62 rfl (ihN rfl) rfl ?_
  refine bplain (pc' := 64) rfl dX3_place_63 rfl (ihN rfl) rfl ?_
  refine bplain (pc' := 66) rfl dX3_place_64 rfl (ihN rfl) rfl ?_
  refine bplain (pc' := 67) rfl dX3_place_66 rfl (ihN rfl) rfl ?_
  refine bthr (pc' := 70) rfl dX3_place_67 rfl (lkf0 q2611 lf_167) (trivial) (ihN rfl) rfl ?_
  refine bplain (pc' := 72) rfl dX3_place_70 rfl (ihN rfl) rfl ?_
  refine bplain (pc' := 73) rfl dX3_place_72 rfl (ihN rfl) rfl ?_
  refine bplain (pc' := 74) rfl dX3_place_73 rfl (ihN rfl) rfl ?_
  refine bthr (pc' := 77) rfl dX3_place_74 rfl (lkf0 q2612 lf_169) (trivial) (ihN rfl) rfl ?_
  refine bplain (pc' := 79) rfl dX3_place_77 rfl (ihN rfl) rfl ?_
  refine bplain (pc' := 80) rfl dX3_place_79 rfl (ihN rfl) rfl ?_
  refine bplain (pc' := 81) rfl dX3_place_80 rfl (ihN rfl) rfl ?_
  refine bthr (pc' := 84) rfl dX3_place_81 rfl (lkf0 q2613 lf_171) (trivial) (ihN rfl) rfl ?_
  refine bplain (pc' := 86) rfl dX3_place_84 rfl (ihN rfl) rfl ?_
  refine bplain (pc' := 87) rfl dX3_place_86 rfl (ihN rfl) rfl ?_
  refine bcall (pc' := 90) rfl dX3_place_87 rfl (trivial) (lcv (n := 5) rfl (pvc (lfv mt_X3_logs ⟨by decide, by decide⟩ mok_X3_logs ⟨by decide, by decide⟩ ⟨q2794, ln_275, Or.inl ⟨q2792, Or.inl qs66⟩⟩) (trivial)) (Or.inl (by decide))) (ihN rfl) rfl ?_
  refine bplain (pc' := 91) rfl dX3_place_90 rfl (ihN rfl) rfl ?_
  refine bthr (pc' := 94) rfl dX3_place_91 rfl (lkf0 q2611 lf_167) (trivial) (ihN rfl) rfl ?_
  refine bplain (pc' := 96) rfl dX3_place_94 rfl (ihN rfl) rfl ?_
  refine bplain (pc' := 97) rfl dX3_place_96 rfl (ihN rfl) rfl ?_
  refine bplain (pc' := 98) rfl dX3_place_97 rfl (ihN rfl) rfl ?_
  refine bplain (pc' := 99) rfl dX3_place_98 rfl (ihN rfl) rfl ?_
  refine bthr (pc' := 102) rfl dX3_place_99 rfl (lkf0 q2612 lf_169) (trivial) (ihN rfl) rfl ?_
  refine bplain (pc' := 104) rfl dX3_place_102 rfl (ihN rfl) rfl ?_
  refine bplain (pc' := 106) rfl dX3_place_104 rfl (ihN rfl) rfl ?_
  refine bplain (pc' := 107) rfl dX3_place_106 rfl (ihN rfl) rfl ?_
  refine bplain (pc' := 108) rfl dX3_place_107 rfl (ihN rfl) rfl ?_
  refine bthr (pc' := 111) rfl dX3_place_108 rfl (lkf0 q2613 lf_171) (trivial) (ihN rfl) rfl ?_
  refine bplain (pc' := 113) rfl dX3_place_111 rfl (ihN rfl) rfl ?_
  refine bplain (pc' := 115) rfl dX3_place_113 rfl (ihN rfl) rfl ?_
  refine bplain (pc' := 116) rfl dX3_place_115 rfl (ihN rfl) rfl ?_
  refine bplain (pc' := 117) rfl dX3_place_116 rfl (ihN rfl) rfl ?_
  refine bret (pc' := 118) rfl dX3_place_117 rfl (Or.inl ⟨rfl, rfl⟩) (ihN rfl) rfl ?_
  exact trivial
theorem tf_X3_place : ∀ x ∈ tb_X3_place, BOK mt 140 x.1 x.2 := tb_c mt_X3_place bf_X3_place_0 (tb_c mt_X3_place bf_X3_place_52 (tb_c mt_X3_place bf_X3_place_55 (tb_n)))
