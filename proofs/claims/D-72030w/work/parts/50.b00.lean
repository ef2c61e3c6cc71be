/-! BLOCKS' FACTS 0 (by gen/bok.py) -/
set_option maxRecDepth 100000
theorem bf_J0_init_0 : BOKt mt tJ0_init 1 0 b_J0_init_0 := by
  refine bplain (pc' := 1) rfl dJ0_init_0 rfl (ihN rfl) rfl ?_
  refine bcall (pc' := 4) rfl dJ0_init_1 rfl (trivial) (lco rfl ⟨q206, q193, q194⟩) (ihN rfl) rfl ?_
  refine bret (pc' := 5) rfl dJ0_init_4 rfl (rfl) (ihN rfl) rfl ?_
  exact trivial
theorem tf_J0_init : ∀ x ∈ tb_J0_init, BOK mt 1 x.1 x.2 := tb_c mt_J0_init bf_J0_init_0 (tb_n)
theorem bf_J1_init_0 : BOKt mt tJ1_init 2 0 b_J1_init_0 := by
  refine bplain (pc' := 1) rfl dJ1_init_0 rfl (ihN rfl) rfl ?_
  refine bcall (pc' := 4) rfl dJ1_init_1 rfl (trivial) (lci mt_J0_init ⟨by decide, by decide⟩ mok_J0_init rfl rfl rfl ln_0 q204 rfl (Or.inl q203)) (ihN rfl) rfl ?_
  refine bplain (pc' := 5) rfl dJ1_init_4 rfl (ihN rfl) rfl ?_
  refine bobj (pc' := 7) rfl dJ1_init_5 rfl (lkl1 rfl q207) (ihN rfl) rfl ?_
  refine bobj (pc' := 10) rfl dJ1_init_7 rfl (⟨lkf0 q215 lf_1, lkp1 rfl lp_2⟩) (ihN rfl) rfl ?_
  refine bret (pc' := 11) rfl dJ1_init_10 rfl (rfl) (ihN rfl) rfl ?_
  exact trivial
theorem tf_J1_init : ∀ x ∈ tb_J1_init, BOK mt 2 x.1 x.2 := tb_c mt_J1_init bf_J1_init_0 (tb_n)
theorem bf_X1_init_0 : BOKt mt tX1_init 3 0 b_X1_init_0 := by
  refine bplain (pc' := 1) rfl dX1_init_0 rfl (ihN rfl) rfl ?_
  refine bcall (pc' := 4) rfl dX1_init_1 rfl (trivial) (lco rfl ⟨q249, q193, q194⟩) (ihN rfl) rfl ?_
  refine bplain (pc' := 5) rfl dX1_init_4 rfl (ihN rfl) rfl ?_
  refine bplain (pc' := 6) rfl dX1_init_5 rfl (ihN rfl) rfl ?_
  refine bobj (pc' := 9) rfl dX1_init_6 rfl (⟨lkf0 q250 lf_3, lkp1 rfl lp_4⟩) (ihN rfl) rfl ?_
  refine bplain (pc' := 10) rfl dX1_init_9 rfl (ihN rfl) rfl ?_
  refine bplain (pc' := 11) rfl dX1_init_10 rfl (ihN rfl) rfl ?_
  refine bobj (pc' := 14) rfl dX1_init_11 rfl (⟨lkf0 q253 lf_5, lkp1 rfl lp_6⟩) (ihN rfl) rfl ?_
  refine bplain (pc' := 15) rfl dX1_init_14 rfl (ihN rfl) rfl ?_
  refine bplain (pc' := 16) rfl dX1_init_15 rfl (ihN rfl) rfl ?_
  refine bobj (pc' := 19) rfl dX1_init_16 rfl (⟨lkf0 q257 lf_7, lkp1 rfl lp_8⟩) (ihN rfl) rfl ?_
  refine bplain (pc' := 20) rfl dX1_init_19 rfl (ihN rfl) rfl ?_
  refine bplain (pc' := 22) rfl dX1_init_20 rfl (ihN rfl) rfl ?_
  refine bobj (pc' := 25) rfl dX1_init_22 rfl (⟨lkf0 q259 lf_9, lkp1 rfl lp_10⟩) (ihN rfl) rfl ?_
  refine bplain (pc' := 26) rfl dX1_init_25 rfl (ihN rfl) rfl ?_
  refine bplain (pc' := 28) rfl dX1_init_26 rfl (ihN rfl) rfl ?_
  refine bobj (pc' := 31) rfl dX1_init_28 rfl (⟨lkf0 q261 lf_11, lkp1 rfl lp_12⟩) (ihN rfl) rfl ?_
  refine bret (pc' := 32) rfl dX1_init_31 rfl (rfl) (ihN rfl) rfl ?_
  exact trivial
theorem tf_X1_init : ∀ x ∈ tb_X1_init, BOK mt 3 x.1 x.2 := tb_c mt_X1_init bf_X1_init_0 (tb_n)
theorem bf_J2_isLatin1_0 : BOKt mt tJ2_isLatin1 4 0 b_J2_isLatin1_0 := by
  refine bobj (pc' := 3) rfl dJ2_isLatin1_0 rfl (lkg0 (j := 0) lc_13 q316 rfl) (ihN rfl) rfl ?_
  refine bjmp (tg := 17) (pc' := 6) rfl (by decide) (by decide) rfl dJ2_isLatin1_3 rfl (ihN rfl) rfl ?_
  refine bplain (pc' := 7) rfl dJ2_isLatin1_6 rfl (ihN rfl) rfl ?_
  refine bthr (pc' := 10) rfl dJ2_isLatin1_7 rfl (lkf0 q1618 lf_14) (trivial) (ihN rfl) rfl ?_
  refine bjmp (tg := 17) (pc' := 13) rfl (by decide) (by decide) rfl dJ2_isLatin1_10 rfl (ihN rfl) rfl ?_
  refine bplain (pc' := 14) rfl dJ2_isLatin1_13 rfl (ihN rfl) rfl ?_
  refine bjmp (tg := 18) (pc' := 17) rfl (by decide) (by decide) rfl dJ2_isLatin1_14 rfl (ihN rfl) rfl ?_
  exact trivial
theorem bf_J2_isLatin1_17 : BOKt mt tJ2_isLatin1 4 17 b_J2_isLatin1_17 := by
  refine bnop1 ?_
  refine bplain (pc' := 18) rfl dJ2_isLatin1_17 rfl (ihN rfl) rfl ?_
  exact bnop0 rfl (by decide)
theorem bf_J2_isLatin1_18 : BOKt mt tJ2_isLatin1 4 18 b_J2_isLatin1_18 := by
  refine bnop1 ?_
  refine bret (pc' := 19) rfl dJ2_isLatin1_18 rfl (Or.inr ⟨rfl, rfl⟩) (ihN rfl) rfl ?_
  exact trivial
theorem tf_J2_isLatin1 : ∀ x ∈ tb_J2_isLatin1, BOK mt 4 x.1 x.2 := tb_c mt_J2_isLatin1 bf_J2_isLatin1_0 (tb_c mt_J2_isLatin1 bf_J2_isLatin1_17 (tb_c mt_J2_isLatin1 bf_J2_isLatin1_18 (tb_n)))
theorem bf_J4_signedHashCode_0 : BOKt mt tJ4_signedHashCode 5 0 b_J4_signedHashCode_0 := by
  refine bplain (pc' := 1) rfl dJ4_signedHashCode_0 rfl (ihN rfl) rfl ?_
  refine bplain (pc' := 2) rfl dJ4_signedHashCode_1 rfl (ihN rfl) rfl ?_
  refine bplain (pc' := 3) rfl dJ4_signedHashCode_2 rfl (ihN rfl) rfl ?_
  refine bplain (pc' := 5) rfl dJ4_signedHashCode_3 rfl (ihN rfl) rfl ?_
  refine bplain (pc' := 6) rfl dJ4_signedHashCode_5 rfl (ihN rfl) rfl ?_
  refine bplain (pc' := 8) rfl dJ4_signedHashCode_6 rfl (ihN rfl) rfl ?_
  exact bnop0 rfl (by decide)
theorem bf_J4_signedHashCode_8 : BOKt mt tJ4_signedHashCode 5 8 b_J4_signedHashCode_8 := by
  refine bnop1 ?_
  refine bplain (pc' := 10) rfl dJ4_signedHashCode_8 rfl (ihN rfl) rfl ?_
  refine bplain (pc' := 12) rfl dJ4_signedHashCode_10 rfl (ihN rfl) rfl ?_
  refine bjmp (tg := 35) (pc' := 15) rfl (by decide) (by decide) rfl dJ4_signedHashCode_12 rfl (ihN rfl) rfl ?_
  refine bplain (pc' := 17) rfl dJ4_signedHashCode_15 rfl (ihN rfl) rfl ?_
  refine bplain (pc' := 18) rfl dJ4_signedHashCode_17 rfl (ihN rfl) rfl ?_
  refine bplain (pc' := 19) rfl dJ4_signedHashCode_18 rfl (ihN rfl) rfl ?_
  refine bplain (pc' := 20) rfl dJ4_signedHashCode_19 rfl (ihN rfl) rfl ?_
  refine bplain (pc' := 22) rfl dJ4_signedHashCode_20 rfl (ihN rfl) rfl ?_
  refine bplain (pc' := 23) rfl dJ4_signedHashCode_22 rfl (ihN rfl) rfl ?_
  refine bplain (pc' := 26) rfl dJ4_signedHashCode_23 rfl (ihN rfl) rfl ?_
  refine bplain (pc' := 27) rfl dJ4_signedHashCode_26 rfl (ihN rfl) rfl ?_
  refine bplain (pc' := 28) rfl dJ4_signedHashCode_27 rfl (ihN rfl) rfl ?_
  refine bplain (pc' := 29) rfl dJ4_signedHashCode_28 rfl (ihN rfl) rfl ?_
  refine bplain (pc' := 32) rfl dJ4_signedHashCode_29 rfl (ihN rfl) rfl ?_
  refine bjmp (tg := 8) (pc' := 35) rfl (by decide) (by decide) rfl dJ4_signedHashCode_32 rfl (ihN rfl) rfl ?_
  exact trivial
theorem bf_J4_signedHashCode_35 : BOKt mt tJ4_signedHashCode 5 35 b_J4_signedHashCode_35 := by
  refine bplain (pc' := 36) rfl dJ4_signedHashCode_35 rfl (ihN rfl) rfl ?_
  refine bret (pc' := 37) rfl dJ4_signedHashCode_36 rfl (Or.inl ⟨rfl, rfl⟩) (ihN rfl) rfl ?_
  exact trivial
theorem tf_J4_signedHashCode : ∀ x ∈ tb_J4_signedHashCode, BOK mt 5 x.1 x.2 := tb_c mt_J4_signedHashCode bf_J4_signedHashCode_0 (tb_c mt_J4_signedHashCode bf_J4_signedHashCode_8 (tb_c mt_J4_signedHashCode bf_J4_signedHashCode_35 (tb_n)))
theorem bf_J4_utf16hashCode_0 : BOKt mt tJ4_utf16hashCode 6 0 b_J4_utf16hashCode_0 := by
  refine bplain (pc' := 1) rfl dJ4_utf16hashCode_0 rfl (ihN rfl) rfl ?_
  refine bplain (pc' := 2) rfl dJ4_utf16hashCode_1 rfl (ihN rfl) rfl ?_
  refine bplain (pc' := 3) rfl dJ4_utf16hashCode_2 rfl (ihN rfl) rfl ?_
  refine bplain (pc' := 5) rfl dJ4_utf16hashCode_3 rfl (ihN rfl) rfl ?_
  refine bplain (pc' := 6) rfl dJ4_utf16hashCode_5 rfl (ihN rfl) rfl ?_
  refine bplain (pc' := 8) rfl dJ4_utf16hashCode_6 rfl (ihN rfl) rfl ?_
  exact bnop0 rfl (by decide)
theorem bf_J4_utf16hashCode_8 : BOKt mt tJ4_utf16hashCode 6 8 b_J4_utf16hashCode_8 := by
  refine bnop1 ?_
  refine bplain (pc' := 10) rfl dJ4_utf16hashCode_8 rfl (ihN rfl) rfl ?_
  refine bplain (pc' := 12) rfl dJ4_utf16hashCode_10 rfl (ihN rfl) rfl ?_
  refine bjmp (tg := 38) (pc' := 15) rfl (by decide) (by decide) rfl dJ4_utf16hashCode_12 rfl (ihN rfl) rfl ?_
  refine bplain (pc' := 17) rfl dJ4_utf16hashCode_15 rfl (ihN rfl) rfl ?_
  refine bplain (pc' := 18) rfl dJ4_utf16hashCode_17 rfl (ihN rfl) rfl ?_
  refine bplain (pc' := 19) rfl dJ4_utf16hashCode_18 rfl (ihN rfl) rfl ?_
  refine bobj (pc' := 22) rfl dJ4_utf16hashCode_19 rfl (trivial) (ihN rfl) rfl ?_
  refine bplain (pc' := 23) rfl dJ4_utf16hashCode_22 rfl (ihN rfl) rfl ?_
  refine bplain (pc' := 25) rfl dJ4_utf16hashCode_23 rfl (ihN rfl) rfl ?_
  refine bcall (pc' := 30) rfl dJ4_utf16hashCode_25 rfl (trivial) (trivial) (ihN rfl) rfl ?_
  refine bplain (pc' := 31) rfl dJ4_utf16hashCode_30 rfl (ihN rfl) rfl ?_
  refine bplain (pc' := 32) rfl dJ4_utf16hashCode_31 rfl (ihN rfl) rfl ?_
  refine bplain (pc' := 35) rfl dJ4_utf16hashCode_32 rfl (ihN rfl) rfl ?_
  refine bjmp (tg := 8) (pc' := 38) rfl (by decide) (by decide) rfl dJ4_utf16hashCode_35 rfl (ihN rfl) rfl ?_
  exact trivial
theorem bf_J4_utf16hashCode_38 : BOKt mt tJ4_utf16hashCode 6 38 b_J4_utf16hashCode_38 := by
  refine bplain (pc' := 39) rfl dJ4_utf16hashCode_38 rfl (ihN rfl) rfl ?_
  refine bret (pc' := 40) rfl dJ4_utf16hashCode_39 rfl (Or.inl ⟨rfl, rfl⟩) (ihN rfl) rfl ?_
  exact trivial
theorem tf_J4_utf16hashCode : ∀ x ∈ tb_J4_utf16hashCode, BOK mt 6 x.1 x.2 := tb_c mt_J4_utf16hashCode bf_J4_utf16hashCode_0 (tb_c mt_J4_utf16hashCode bf_J4_utf16hashCode_8 (tb_c mt_J4_utf16hashCode bf_J4_utf16hashCode_38 (tb_n)))
theorem bf_J4_hashCode_0 : BOKt mt tJ4_hashCode 7 0 b_J4_hashCode_0 := by
  refine bplain (pc' := 1) rfl dJ4_hashCode_0 rfl (ihN rfl) rfl ?_
  refine bplain (pc' := 2) rfl dJ4_hashCode_1 rfl (ihN rfl) rfl ?_
  refine bplain (pc' := 3) rfl dJ4_hashCode_2 rfl (ihN rfl) rfl ?_
  refine bplain (pc' := 5) rfl dJ4_hashCode_3 rfl (ihN rfl) rfl ?_
  refine bplain (pc' := 6) rfl dJ4_hashCode_5 rfl (ihN rfl) rfl ?_
  refine bplain (pc' := 8) rfl dJ4_hashCode_6 rfl (ihN rfl) rfl ?_
  exact bnop0 rfl (by decide)
theorem bf_J4_hashCode_8 : BOKt mt tJ4_hashCode 7 8 b_J4_hashCode_8 := by
  refine bnop1 ?_
  refine bplain (pc' := 10) rfl dJ4_hashCode_8 rfl (ihN rfl) rfl ?_
  refine bplain (pc' := 12) rfl dJ4_hashCode_10 rfl (ihN rfl) rfl ?_
  refine bjmp (tg := 31) (pc' := 15) rfl (by decide) (by decide) rfl dJ4_hashCode_12 rfl (ihN rfl) rfl ?_
  refine bplain (pc' := 17) rfl dJ4_hashCode_15 rfl (ihN rfl) rfl ?_
  refine bplain (pc' := 18) rfl dJ4_hashCode_17 rfl (ihN rfl) rfl ?_
  refine bplain (pc' := 19) rfl dJ4_hashCode_18 rfl (ihN rfl) rfl ?_
  refine bplain (pc' := 20) rfl dJ4_hashCode_19 rfl (ihN rfl) rfl ?_
  refine bplain (pc' := 22) rfl dJ4_hashCode_20 rfl (ihN rfl) rfl ?_
  refine bplain (pc' := 23) rfl dJ4_hashCode_22 rfl (ihN rfl) rfl ?_
  refine bplain (pc' := 24) rfl dJ4_hashCode_23 rfl (ihN rfl) rfl ?_
  refine bplain (pc' := 25) rfl dJ4_hashCode_24 rfl (ihN rfl) rfl ?_
  refine bplain (pc' := 28) rfl dJ4_hashCode_25 rfl (ihN rfl) rfl ?_
  refine bjmp (tg := 8) (pc' := 31) rfl (by decide) (by decide) rfl dJ4_hashCode_28 rfl (ihN rfl) rfl ?_
  exact trivial
theorem bf_J4_hashCode_31 : BOKt mt tJ4_hashCode 7 31 b_J4_hashCode_31 := by
  refine bplain (pc' := 32) rfl dJ4_hashCode_31 rfl (ihN rfl) rfl ?_
  refine bret (pc' := 33) rfl dJ4_hashCode_32 rfl (Or.inl ⟨rfl, rfl⟩) (ihN rfl) rfl ?_
  exact trivial
theorem tf_J4_hashCode : ∀ x ∈ tb_J4_hashCode, BOK mt 7 x.1 x.2 := tb_c mt_J4_hashCode bf_J4_hashCode_0 (tb_c mt_J4_hashCode bf_J4_hashCode_8 (tb_c mt_J4_hashCode bf_J4_hashCode_31 (tb_n)))
theorem bf_J4_hashCode_2_0 : BOKt mt tJ4_hashCode_2 8 0 b_J4_hashCode_2_0 := by
  refine bplain (pc' := 1) rfl dJ4_hashCode_2_0 rfl (ihN rfl) rfl ?_
  refine bplain (pc' := 2) rfl dJ4_hashCode_2_1 rfl (ihN rfl) rfl ?_
  refine bplain (pc' := 3) rfl dJ4_hashCode_2_2 rfl (ihN rfl) rfl ?_
  refine bplain (pc' := 5) rfl dJ4_hashCode_2_3 rfl (ihN rfl) rfl ?_
  refine bplain (pc' := 6) rfl dJ4_hashCode_2_5 rfl (ihN rfl) rfl ?_
  refine bplain (pc' := 8) rfl dJ4_hashCode_2_6 rfl (ihN rfl) rfl ?_
  exact bnop0 rfl (by decide)
theorem bf_J4_hashCode_2_8 : BOKt mt tJ4_hashCode_2 8 8 b_J4_hashCode_2_8 := by
  refine bnop1 ?_
  refine bplain (pc' := 10) rfl dJ4_hashCode_2_8 rfl (ihN rfl) rfl ?_
  refine bplain (pc' := 12) rfl dJ4_hashCode_2_10 rfl (ihN rfl) rfl ?_
  refine bjmp (tg := 31) (pc' := 15) rfl (by decide) (by decide) rfl dJ4_hashCode_2_12 rfl (ihN rfl) rfl ?_
  refine bplain (pc' := 17) rfl dJ4_hashCode_2_15 rfl (ihN rfl) rfl ?_
  refine bplain (pc' := 18) rfl dJ4_hashCode_2_17 rfl (ihN rfl) rfl ?_
  refine bplain (pc' := 19) rfl dJ4_hashCode_2_18 rfl (ihN rfl) rfl ?_
  refine bplain (pc' := 20) rfl dJ4_hashCode_2_19 rfl (ihN rfl) rfl ?_
  refine bplain (pc' := 22) rfl dJ4_hashCode_2_20 rfl (ihN rfl) rfl ?_
  refine bplain (pc' := 23) rfl dJ4_hashCode_2_22 rfl (ihN rfl) rfl ?_
  refine bplain (pc' := 24) rfl dJ4_hashCode_2_23 rfl (ihN rfl) rfl ?_
  refine bplain (pc' := 25) rfl dJ4_hashCode_2_24 rfl (ihN rfl) rfl ?_
  refine bplain (pc' := 28) rfl dJ4_hashCode_2_25 rfl (ihN rfl) rfl ?_
  refine bjmp (tg := 8) (pc' := 31) rfl (by decide) (by decide) rfl dJ4_hashCode_2_28 rfl (ihN rfl) rfl ?_
  exact trivial
theorem bf_J4_hashCode_2_31 : BOKt mt tJ4_hashCode_2 8 31 b_J4_hashCode_2_31 := by
  refine bplain (pc' := 32) rfl dJ4_hashCode_2_31 rfl (ihN rfl) rfl ?_
  refine bret (pc' := 33) rfl dJ4_hashCode_2_32 rfl (Or.inl ⟨rfl, rfl⟩) (ihN rfl) rfl ?_
  exact trivial
theorem tf_J4_hashCode_2 : ∀ x ∈ tb_J4_hashCode_2, BOK mt 8 x.1 x.2 := tb_c mt_J4_hashCode_2 bf_J4_hashCode_2_0 (tb_c mt_J4_hashCode_2 bf_J4_hashCode_2_8 (tb_c mt_J4_hashCode_2 bf_J4_hashCode_2_31 (tb_n)))
theorem bf_J4_hashCode_3_0 : BOKt mt tJ4_hashCode_3 9 0 b_J4_hashCode_3_0 := by
  refine bplain (pc' := 1) rfl dJ4_hashCode_3_0 rfl (ihN rfl) rfl ?_
  refine bplain (pc' := 2) rfl dJ4_hashCode_3_1 rfl (ihN rfl) rfl ?_
  refine bplain (pc' := 3) rfl dJ4_hashCode_3_2 rfl (ihN rfl) rfl ?_
  refine bplain (pc' := 5) rfl dJ4_hashCode_3_3 rfl (ihN rfl) rfl ?_
  refine bplain (pc' := 6) rfl dJ4_hashCode_3_5 rfl (ihN rfl) rfl ?_
  refine bplain (pc' := 8) rfl dJ4_hashCode_3_6 rfl (ihN rfl) rfl ?_
  exact bnop0 rfl (by decide)
theorem bf_J4_hashCode_3_8 : BOKt mt tJ4_hashCode_3 9 8 b_J4_hashCode_3_8 := by
  refine bnop1 ?_
  refine bplain (pc' := 10) rfl dJ4_hashCode_3_8 rfl (ihN rfl) rfl ?_
  refine bplain (pc' := 12) rfl dJ4_hashCode_3_10 rfl (ihN rfl) rfl ?_
  refine bjmp (tg := 31) (pc' := 15) rfl (by decide) (by decide) rfl dJ4_hashCode_3_12 rfl (ihN rfl) rfl ?_
  refine bplain (pc' := 17) rfl dJ4_hashCode_3_15 rfl (ihN rfl) rfl ?_
  refine bplain (pc' := 18) rfl dJ4_hashCode_3_17 rfl (ihN rfl) rfl ?_
  refine bplain (pc' := 19) rfl dJ4_hashCode_3_18 rfl (ihN rfl) rfl ?_
  refine bplain (pc' := 20) rfl dJ4_hashCode_3_19 rfl (ihN rfl) rfl ?_
  refine bplain (pc' := 22) rfl dJ4_hashCode_3_20 rfl (ihN rfl) rfl ?_
  refine bplain (pc' := 23) rfl dJ4_hashCode_3_22 rfl (ihN rfl) rfl ?_
  refine bplain (pc' := 24) rfl dJ4_hashCode_3_23 rfl (ihN rfl) rfl ?_
  refine bplain (pc' := 25) rfl dJ4_hashCode_3_24 rfl (ihN rfl) rfl ?_
  refine bplain (pc' := 28) rfl dJ4_hashCode_3_25 rfl (ihN rfl) rfl ?_
  refine bjmp (tg := 8) (pc' := 31) rfl (by decide) (by decide) rfl dJ4_hashCode_3_28 rfl (ihN rfl) rfl ?_
  exact trivial
theorem bf_J4_hashCode_3_31 : BOKt mt tJ4_hashCode_3 9 31 b_J4_hashCode_3_31 := by
  refine bplain (pc' := 32) rfl dJ4_hashCode_3_31 rfl (ihN rfl) rfl ?_
  refine bret (pc' := 33) rfl dJ4_hashCode_3_32 rfl (Or.inl ⟨rfl, rfl⟩) (ihN rfl) rfl ?_
  exact trivial
theorem tf_J4_hashCode_3 : ∀ x ∈ tb_J4_hashCode_3, BOK mt 9 x.1 x.2 := tb_c mt_J4_hashCode_3 bf_J4_hashCode_3_0 (tb_c mt_J4_hashCode_3 bf_J4_hashCode_3_8 (tb_c mt_J4_hashCode_3 bf_J4_hashCode_3_31 (tb_n)))
theorem bf_J4_hashCode_4_0 : BOKt mt tJ4_hashCode_4 10 0 b_J4_hashCode_4_0 := by
  refine bplain (pc' := 1) rfl dJ4_hashCode_4_0 rfl (ihN rfl) rfl ?_
  refine bplain (pc' := 2) rfl dJ4_hashCode_4_1 rfl (ihN rfl) rfl ?_
  refine bplain (pc' := 3) rfl dJ4_hashCode_4_2 rfl (ihN rfl) rfl ?_
  refine bplain (pc' := 5) rfl dJ4_hashCode_4_3 rfl (ihN rfl) rfl ?_
  refine bplain (pc' := 6) rfl dJ4_hashCode_4_5 rfl (ihN rfl) rfl ?_
  refine bplain (pc' := 8) rfl dJ4_hashCode_4_6 rfl (ihN rfl) rfl ?_
  exact bnop0 rfl (by decide)
theorem bf_J4_hashCode_4_8 : BOKt mt tJ4_hashCode_4 10 8 b_J4_hashCode_4_8 := by
  refine bnop1 ?_
  refine bplain (pc' := 10) rfl dJ4_hashCode_4_8 rfl (ihN rfl) rfl ?_
  refine bplain (pc' := 12) rfl dJ4_hashCode_4_10 rfl (ihN rfl) rfl ?_
  refine bjmp (tg := 31) (pc' := 15) rfl (by decide) (by decide) rfl dJ4_hashCode_4_12 rfl (ihN rfl) rfl ?_
  refine bplain (pc' := 17) rfl dJ4_hashCode_4_15 rfl (ihN rfl) rfl ?_
  refine bplain (pc' := 18) rfl dJ4_hashCode_4_17 rfl (ihN rfl) rfl ?_
  refine bplain (pc' := 19) rfl dJ4_hashCode_4_18 rfl (ihN rfl) rfl ?_
  refine bplain (pc' := 20) rfl dJ4_hashCode_4_19 rfl (ihN rfl) rfl ?_
  refine bplain (pc' := 22) rfl dJ4_hashCode_4_20 rfl (ihN rfl) rfl ?_
  refine bplain (pc' := 23) rfl dJ4_hashCode_4_22 rfl (ihN rfl) rfl ?_
  refine bplain (pc' := 24) rfl dJ4_hashCode_4_23 rfl (ihN rfl) rfl ?_
  refine bplain (pc' := 25) rfl dJ4_hashCode_4_24 rfl (ihN rfl) rfl ?_
  refine bplain (pc' := 28) rfl dJ4_hashCode_4_25 rfl (ihN rfl) rfl ?_
  refine bjmp (tg := 8) (pc' := 31) rfl (by decide) (by decide) rfl dJ4_hashCode_4_28 rfl (ihN rfl) rfl ?_
  exact trivial
theorem bf_J4_hashCode_4_31 : BOKt mt tJ4_hashCode_4 10 31 b_J4_hashCode_4_31 := by
  refine bplain (pc' := 32) rfl dJ4_hashCode_4_31 rfl (ihN rfl) rfl ?_
  refine bret (pc' := 33) rfl dJ4_hashCode_4_32 rfl (Or.inl ⟨rfl, rfl⟩) (ihN rfl) rfl ?_
  exact trivial
theorem tf_J4_hashCode_4 : ∀ x ∈ tb_J4_hashCode_4, BOK mt 10 x.1 x.2 := tb_c mt_J4_hashCode_4 bf_J4_hashCode_4_0 (tb_c mt_J4_hashCode_4 bf_J4_hashCode_4_8 (tb_c mt_J4_hashCode_4 bf_J4_hashCode_4_31 (tb_n)))
theorem bf_J4_vectorizedHashCode_0 : BOKt mt tJ4_vectorizedHashCode 11 0 b_J4_vectorizedHashCode_0 := by
  refine bplain (pc' := 2) rfl dJ4_vectorizedHashCode_0 rfl (ihN rfl) rfl ?_
  exact bsw rfl dJ4_vectorizedHashCode_2 (swt (by decide) (by decide) (by decide) (by decide) (by decide +kernel) (by decide +kernel)) (by decide +kernel) (ihN rfl)
theorem bf_J4_vectorizedHashCode_44 : BOKt mt tJ4_vectorizedHashCode 11 44 b_J4_vectorizedHashCode_44 := by
  refine bplain (pc' := 45) rfl dJ4_vectorizedHashCode_44 rfl (ihN rfl) rfl ?_
  refine bplain (pc' := 46) rfl dJ4_vectorizedHashCode_45 rfl (ihN rfl) rfl ?_
  refine bthr (pc' := 49) rfl dJ4_vectorizedHashCode_46 rfl (lkc (nm := "[B") q324 lg_15 lb_16) (Or.inl rfl) (ihN rfl) rfl ?_
  refine bplain (pc' := 50) rfl dJ4_vectorizedHashCode_49 rfl (ihN rfl) rfl ?_
  refine bplain (pc' := 51) rfl dJ4_vectorizedHashCode_50 rfl (ihN rfl) rfl ?_
  refine bcall (pc' := 54) rfl dJ4_vectorizedHashCode_51 rfl (trivial) (lcs (l := q326) mt_J4_signedHashCode ⟨by decide, by decide⟩ mok_J4_signedHashCode rfl ln_17 (Or.inl q325)) (ihN rfl) rfl ?_
  refine bjmp (tg := 157) (pc' := 57) rfl (by decide) (by decide) rfl dJ4_vectorizedHashCode_54 rfl (ihN rfl) rfl ?_
  exact trivial
theorem bf_J4_vectorizedHashCode_57 : BOKt mt tJ4_vectorizedHashCode 11 57 b_J4_vectorizedHashCode_57 := by
  refine bplain (pc' := 58) rfl dJ4_vectorizedHashCode_57 rfl (ihN rfl) rfl ?_
  refine bobj (pc' := 61) rfl dJ4_vectorizedHashCode_58 rfl (lkc (nm := "[B") q324 lg_15 lb_16) (ihN rfl) rfl ?_
  refine bjmp (tg := 77) (pc' := 64) rfl (by decide) (by decide) rfl dJ4_vectorizedHashCode_61 rfl (ihN rfl) rfl ?_
  refine bplain (pc' := 65) rfl dJ4_vectorizedHashCode_64 rfl (ihN rfl) rfl ?_
  refine bplain (pc' := 66) rfl dJ4_vectorizedHashCode_65 rfl (ihN rfl) rfl ?_
  refine bthr (pc' := 69) rfl dJ4_vectorizedHashCode_66 rfl (lkc (nm := "[B") q324 lg_15 lb_16) (Or.inl rfl) (ihN rfl) rfl ?_
  refine bplain (pc' := 70) rfl dJ4_vectorizedHashCode_69 rfl (ihN rfl) rfl ?_
  refine bplain (pc' := 71) rfl dJ4_vectorizedHashCode_70 rfl (ihN rfl) rfl ?_
  refine bcall (pc' := 74) rfl dJ4_vectorizedHashCode_71 rfl (trivial) (lcs (l := q329) mt_J4_utf16hashCode ⟨by decide, by decide⟩ mok_J4_utf16hashCode rfl ln_17 (Or.inl q328)) (ihN rfl) rfl ?_
  refine bjmp (tg := 157) (pc' := 77) rfl (by decide) (by decide) rfl dJ4_vectorizedHashCode_74 rfl (ihN rfl) rfl ?_
  exact trivial
theorem bf_J4_vectorizedHashCode_77 : BOKt mt tJ4_vectorizedHashCode 11 77 b_J4_vectorizedHashCode_77 := by
  refine bplain (pc' := 78) rfl dJ4_vectorizedHashCode_77 rfl (ihN rfl) rfl ?_
  refine bplain (pc' := 79) rfl dJ4_vectorizedHashCode_78 rfl (ihN rfl) rfl ?_
  refine bthr (pc' := 82) rfl dJ4_vectorizedHashCode_79 rfl (lkc (nm := "[C") q355 lg_18 lb_19) (Or.inl rfl) (ihN rfl) rfl ?_
  refine bplain (pc' := 83) rfl dJ4_vectorizedHashCode_82 rfl (ihN rfl) rfl ?_
  refine bplain (pc' := 84) rfl dJ4_vectorizedHashCode_83 rfl (ihN rfl) rfl ?_
  refine bcall (pc' := 87) rfl dJ4_vectorizedHashCode_84 rfl (trivial) (lcs (l := q357) mt_J4_hashCode ⟨by decide, by decide⟩ mok_J4_hashCode rfl ln_20 (Or.inl q356)) (ihN rfl) rfl ?_
  refine bjmp (tg := 157) (pc' := 90) rfl (by decide) (by decide) rfl dJ4_vectorizedHashCode_87 rfl (ihN rfl) rfl ?_
  exact trivial
theorem bf_J4_vectorizedHashCode_90 : BOKt mt tJ4_vectorizedHashCode 11 90 b_J4_vectorizedHashCode_90 := by
  refine bplain (pc' := 91) rfl dJ4_vectorizedHashCode_90 rfl (ihN rfl) rfl ?_
  refine bplain (pc' := 92) rfl dJ4_vectorizedHashCode_91 rfl (ihN rfl) rfl ?_
  refine bthr (pc' := 95) rfl dJ4_vectorizedHashCode_92 rfl (lkc (nm := "[B") q324 lg_15 lb_16) (Or.inl rfl) (ihN rfl) rfl ?_
  refine bplain (pc' := 96) rfl dJ4_vectorizedHashCode_95 rfl (ihN rfl) rfl ?_
  refine bplain (pc' := 97) rfl dJ4_vectorizedHashCode_96 rfl (ihN rfl) rfl ?_
  refine bcall (pc' := 100) rfl dJ4_vectorizedHashCode_97 rfl (trivial) (lcs (l := q360) mt_J4_hashCode_2 ⟨by decide, by decide⟩ mok_J4_hashCode_2 rfl ln_17 (Or.inl q359)) (ihN rfl) rfl ?_
  refine bjmp (tg := 157) (pc' := 103) rfl (by decide) (by decide) rfl dJ4_vectorizedHashCode_100 rfl (ihN rfl) rfl ?_
  exact trivial
theorem bf_J4_vectorizedHashCode_103 : BOKt mt tJ4_vectorizedHashCode 11 103 b_J4_vectorizedHashCode_103 := by
  refine bplain (pc' := 104) rfl dJ4_vectorizedHashCode_103 rfl (ihN rfl) rfl ?_
  refine bplain (pc' := 105) rfl dJ4_vectorizedHashCode_104 rfl (ihN rfl) rfl ?_
  refine bthr (pc' := 108) rfl dJ4_vectorizedHashCode_105 rfl (lkc (nm := "[S") q362 lg_21 lb_22) (Or.inl rfl) (ihN rfl) rfl ?_
  refine bplain (pc' := 109) rfl dJ4_vectorizedHashCode_108 rfl (ihN rfl) rfl ?_
  refine bplain (pc' := 110) rfl dJ4_vectorizedHashCode_109 rfl (ihN rfl) rfl ?_
  refine bcall (pc' := 113) rfl dJ4_vectorizedHashCode_110 rfl (trivial) (lcs (l := q364) mt_J4_hashCode_3 ⟨by decide, by decide⟩ mok_J4_hashCode_3 rfl ln_23 (Or.inl q363)) (ihN rfl) rfl ?_
  refine bjmp (tg := 157) (pc' := 116) rfl (by decide) (by decide) rfl dJ4_vectorizedHashCode_113 rfl (ihN rfl) rfl ?_
  exact trivial
theorem bf_J4_vectorizedHashCode_116 : BOKt mt tJ4_vectorizedHashCode 11 116 b_J4_vectorizedHashCode_116 := by
  refine bplain (pc' := 117) rfl dJ4_vectorizedHashCode_116 rfl (ihN rfl) rfl ?_
  refine bplain (pc' := 118) rfl dJ4_vectorizedHashCode_117 rfl (ihN rfl) rfl ?_
  refine bthr (pc' := 121) rfl dJ4_vectorizedHashCode_118 rfl (lkc (nm := "[I") q366 lg_24 lb_25) (Or.inl rfl) (ihN rfl) rfl ?_
  refine bplain (pc' := 122) rfl dJ4_vectorizedHashCode_121 rfl (ihN rfl) rfl ?_
  refine bplain (pc' := 123) rfl dJ4_vectorizedHashCode_122 rfl (ihN rfl) rfl ?_
  refine bcall (pc' := 126) rfl dJ4_vectorizedHashCode_123 rfl (trivial) (lcs (l := q368) mt_J4_hashCode_4 ⟨by decide, by decide⟩ mok_J4_hashCode_4 rfl ln_26 (Or.inl q367)) (ihN rfl) rfl ?_
  refine bjmp (tg := 157) (pc' := 129) rfl (by decide) (by decide) rfl dJ4_vectorizedHashCode_126 rfl (ihN rfl) rfl ?_
  exact trivial
theorem bf_J4_vectorizedHashCode_129 : BOKt mt tJ4_vectorizedHashCode 11 129 b_J4_vectorizedHashCode_129 := by
  refine bnop1 ?_
  refine bthr (pc' := 132) rfl dJ4_vectorizedHashCode_129 rfl (trivial) (trivial) (ihN rfl) rfl ?_
  refine bplain (pc' := 133) rfl dJ4_vectorizedHashCode_132 rfl (ihN rfl) rfl ?_
  refine bthr (pc' := 136) rfl dJ4_vectorizedHashCode_133 rfl (trivial) (trivial) (ihN rfl) rfl ?_
  refine bplain (pc' := 137) rfl dJ4_vectorizedHashCode_136 rfl (ihN rfl) rfl ?_
  refine bcall (pc' := 140) rfl dJ4_vectorizedHashCode_137 rfl (trivial) (trivial) (ihN rfl) rfl ?_
  refine bobj (pc' := 142) rfl dJ4_vectorizedHashCode_140 rfl (trivial) (ihN rfl) rfl ?_
  refine bcall (pc' := 145) rfl dJ4_vectorizedHashCode_142 rfl (trivial) (trivial) (ihN rfl) rfl ?_
  refine bplain (pc' := 147) rfl dJ4_vectorizedHashCode_145 rfl (ihN rfl) rfl ?_
  refine bcall (pc' := 150) rfl dJ4_vectorizedHashCode_147 rfl (trivial) (trivial) (ihN rfl) rfl ?_
  refine bcall (pc' := 153) rfl dJ4_vectorizedHashCode_150 rfl (trivial) (trivial) (ihN rfl) rfl ?_
  refine bcall (pc' := 156) rfl dJ4_vectorizedHashCode_153 rfl (trivial) (trivial) (ihN rfl) rfl ?_
  refine bplain (pc' := 157) rfl dJ4_vectorizedHashCode_156 rfl (ihN rfl) rfl ?_
  exact trivial
theorem bf_J4_vectorizedHashCode_157 : BOKt mt tJ4_vectorizedHashCode 11 157 b_J4_vectorizedHashCode_157 := by
  refine bnop1 ?_
  refine bret (pc' := 158) rfl dJ4_vectorizedHashCode_157 rfl (Or.inl ⟨rfl, rfl⟩) (ihN rfl) rfl ?_
  exact trivial
theorem tf_J4_vectorizedHashCode : ∀ x ∈ tb_J4_vectorizedHashCode, BOK mt 11 x.1 x.2 := tb_c mt_J4_vectorizedHashCode bf_J4_vectorizedHashCode_0 (tb_c mt_J4_vectorizedHashCode bf_J4_vectorizedHashCode_44 (tb_c mt_J4_vectorizedHashCode bf_J4_vectorizedHashCode_57 (tb_c mt_J4_vectorizedHashCode bf_J4_vectorizedHashCode_77 (tb_c mt_J4_vectorizedHashCode bf_J4_vectorizedHashCode_90 (tb_c mt_J4_vectorizedHashCode bf_J4_vectorizedHashCode_103 (tb_c mt_J4_vectorizedHashCode bf_J4_vectorizedHashCode_116 (tb_c mt_J4_vectorizedHashCode bf_J4_vectorizedHashCode_129 (tb_c mt_J4_vectorizedHashCode bf_J4_vectorizedHashCode_157 (tb_n)))))))))
theorem bf_J3_hashCode_0 : BOKt mt tJ3_hashCode 12 0 b_J3_hashCode_0 := by
  refine bplain (pc' := 1) rfl dJ3_hashCode_0 rfl (ihN rfl) rfl ?_
  refine bplain (pc' := 2) rfl dJ3_hashCode_1 rfl (ihN rfl) rfl ?_
  exact bsw rfl dJ3_hashCode_2 (swl (by decide +kernel) (by decide) (by decide) (by decide +kernel) (by decide +kernel)) (by decide +kernel) (ihN rfl)
theorem bf_J3_hashCode_28 : BOKt mt tJ3_hashCode 12 28 b_J3_hashCode_28 := by
  refine bplain (pc' := 29) rfl dJ3_hashCode_28 rfl (ihN rfl) rfl ?_
  refine bjmp (tg := 51) (pc' := 32) rfl (by decide) (by decide) rfl dJ3_hashCode_29 rfl (ihN rfl) rfl ?_
  exact trivial
theorem bf_J3_hashCode_32 : BOKt mt tJ3_hashCode 12 32 b_J3_hashCode_32 := by
  refine bplain (pc' := 33) rfl dJ3_hashCode_32 rfl (ihN rfl) rfl ?_
  refine bplain (pc' := 34) rfl dJ3_hashCode_33 rfl (ihN rfl) rfl ?_
  refine bplain (pc' := 35) rfl dJ3_hashCode_34 rfl (ihN rfl) rfl ?_
  refine bplain (pc' := 38) rfl dJ3_hashCode_35 rfl (ihN rfl) rfl ?_
  refine bplain (pc' := 39) rfl dJ3_hashCode_38 rfl (ihN rfl) rfl ?_
  refine bjmp (tg := 51) (pc' := 42) rfl (by decide) (by decide) rfl dJ3_hashCode_39 rfl (ihN rfl) rfl ?_
  exact trivial
theorem bf_J3_hashCode_42 : BOKt mt tJ3_hashCode 12 42 b_J3_hashCode_42 := by
  refine bplain (pc' := 43) rfl dJ3_hashCode_42 rfl (ihN rfl) rfl ?_
  refine bplain (pc' := 44) rfl dJ3_hashCode_43 rfl (ihN rfl) rfl ?_
  refine bplain (pc' := 45) rfl dJ3_hashCode_44 rfl (ihN rfl) rfl ?_
  refine bplain (pc' := 46) rfl dJ3_hashCode_45 rfl (ihN rfl) rfl ?_
  refine bplain (pc' := 47) rfl dJ3_hashCode_46 rfl (ihN rfl) rfl ?_
  refine bplain (pc' := 48) rfl dJ3_hashCode_47 rfl (ihN rfl) rfl ?_
  refine bcall (pc' := 51) rfl dJ3_hashCode_48 rfl (trivial) (lcs (l := q322) mt_J4_vectorizedHashCode ⟨by decide, by decide⟩ mok_J4_vectorizedHashCode rfl ln_27 (Or.inl q321)) (ihN rfl) rfl ?_
  exact bnop0 rfl (by decide)
theorem bf_J3_hashCode_51 : BOKt mt tJ3_hashCode 12 51 b_J3_hashCode_51 := by
  refine bnop1 ?_
  refine bret (pc' := 52) rfl dJ3_hashCode_51 rfl (Or.inl ⟨rfl, rfl⟩) (ihN rfl) rfl ?_
  exact trivial
theorem tf_J3_hashCode : ∀ x ∈ tb_J3_hashCode, BOK mt 12 x.1 x.2 := tb_c mt_J3_hashCode bf_J3_hashCode_0 (tb_c mt_J3_hashCode bf_J3_hashCode_28 (tb_c mt_J3_hashCode bf_J3_hashCode_32 (tb_c mt_J3_hashCode bf_J3_hashCode_42 (tb_c mt_J3_hashCode bf_J3_hashCode_51 (tb_n)))))
theorem bf_J2_hashCode_0 : BOKt mt tJ2_hashCode 13 0 b_J2_hashCode_0 := by
  refine bplain (pc' := 1) rfl dJ2_hashCode_0 rfl (ihN rfl) rfl ?_
  refine bthr (pc' := 4) rfl dJ2_hashCode_1 rfl (lkf0 q1619 lf_28) (trivial) (ihN rfl) rfl ?_
  refine bplain (pc' := 5) rfl dJ2_hashCode_4 rfl (ihN rfl) rfl ?_
  refine bplain (pc' := 6) rfl dJ2_hashCode_5 rfl (ihN rfl) rfl ?_
  refine bjmp (tg := 58) (pc' := 9) rfl (by decide) (by decide) rfl dJ2_hashCode_6 rfl (ihN rfl) rfl ?_
  refine bplain (pc' := 10) rfl dJ2_hashCode_9 rfl (ihN rfl) rfl ?_
  refine bthr (pc' := 13) rfl dJ2_hashCode_10 rfl (lkf0 q1620 lf_29) (trivial) (ihN rfl) rfl ?_
  refine bjmp (tg := 58) (pc' := 16) rfl (by decide) (by decide) rfl dJ2_hashCode_13 rfl (ihN rfl) rfl ?_
  refine bplain (pc' := 17) rfl dJ2_hashCode_16 rfl (ihN rfl) rfl ?_
  refine bcall (pc' := 20) rfl dJ2_hashCode_17 rfl (trivial) (lcv (n := 0) rfl (pvc (lfv mt_J2_isLatin1 ⟨by decide, by decide⟩ mok_J2_isLatin1 ⟨by decide, by decide⟩ ⟨q313, ln_30, Or.inl ⟨q312, Or.inl q314⟩⟩) (pvc (lfv mt_J2_isLatin1 ⟨by decide, by decide⟩ mok_J2_isLatin1 ⟨by decide, by decide⟩ ⟨q313, ln_30, Or.inl ⟨q312, Or.inl q314⟩⟩) (trivial))) (Or.inl (by decide))) (ihN rfl) rfl ?_
  refine bjmp (tg := 33) (pc' := 23) rfl (by decide) (by decide) rfl dJ2_hashCode_20 rfl (ihN rfl) rfl ?_
  refine bplain (pc' := 24) rfl dJ2_hashCode_23 rfl (ihN rfl) rfl ?_
  refine bthr (pc' := 27) rfl dJ2_hashCode_24 rfl (lkf0 q1617 lf_31) (trivial) (ihN rfl) rfl ?_
  refine bcall (pc' := 30) rfl dJ2_hashCode_27 rfl (trivial) (lcs (l := q319) mt_J3_hashCode ⟨by decide, by decide⟩ mok_J3_hashCode rfl ln_32 (Or.inl q318)) (ihN rfl) rfl ?_
  refine bjmp (tg := 40) (pc' := 33) rfl (by decide) (by decide) rfl dJ2_hashCode_30 rfl (ihN rfl) rfl ?_
  exact trivial
theorem bf_J2_hashCode_33 : BOKt mt tJ2_hashCode 13 33 b_J2_hashCode_33 := by
  refine bplain (pc' := 34) rfl dJ2_hashCode_33 rfl (ihN rfl) rfl ?_
  refine bthr (pc' := 37) rfl dJ2_hashCode_34 rfl (lkf0 q1617 lf_31) (trivial) (ihN rfl) rfl ?_
  refine bcall (pc' := 40) rfl dJ2_hashCode_37 rfl (trivial) (trivial) (ihN rfl) rfl ?_
  exact bnop0 rfl (by decide)
theorem bf_J2_hashCode_40 : BOKt mt tJ2_hashCode 13 40 b_J2_hashCode_40 := by
  refine bnop1 ?_
  refine bplain (pc' := 41) rfl dJ2_hashCode_40 rfl (ihN rfl) rfl ?_
  refine bplain (pc' := 42) rfl dJ2_hashCode_41 rfl (ihN rfl) rfl ?_
  refine bjmp (tg := 53) (pc' := 45) rfl (by decide) (by decide) rfl dJ2_hashCode_42 rfl (ihN rfl) rfl ?_
  refine bplain (pc' := 46) rfl dJ2_hashCode_45 rfl (ihN rfl) rfl ?_
  refine bplain (pc' := 47) rfl dJ2_hashCode_46 rfl (ihN rfl) rfl ?_
  refine bobj (pc' := 50) rfl dJ2_hashCode_47 rfl (⟨lkf0 q1620 lf_33, lkp0 lp_34⟩) (ihN rfl) rfl ?_
  refine bjmp (tg := 58) (pc' := 53) rfl (by decide) (by decide) rfl dJ2_hashCode_50 rfl (ihN rfl) rfl ?_
  exact trivial
theorem bf_J2_hashCode_53 : BOKt mt tJ2_hashCode 13 53 b_J2_hashCode_53 := by
  refine bplain (pc' := 54) rfl dJ2_hashCode_53 rfl (ihN rfl) rfl ?_
  refine bplain (pc' := 55) rfl dJ2_hashCode_54 rfl (ihN rfl) rfl ?_
  refine bobj (pc' := 58) rfl dJ2_hashCode_55 rfl (⟨lkf0 q1619 lf_35, lkp0 lp_36⟩) (ihN rfl) rfl ?_
  exact bnop0 rfl (by decide)
theorem bf_J2_hashCode_58 : BOKt mt tJ2_hashCode 13 58 b_J2_hashCode_58 := by
  refine bnop1 ?_
  refine bplain (pc' := 59) rfl dJ2_hashCode_58 rfl (ihN rfl) rfl ?_
  refine bret (pc' := 60) rfl dJ2_hashCode_59 rfl (Or.inl ⟨rfl, rfl⟩) (ihN rfl) rfl ?_
  exact trivial
theorem tf_J2_hashCode : ∀ x ∈ tb_J2_hashCode, BOK mt 13 x.1 x.2 := tb_c mt_J2_hashCode bf_J2_hashCode_0 (tb_c mt_J2_hashCode bf_J2_hashCode_33 (tb_c mt_J2_hashCode bf_J2_hashCode_40 (tb_c mt_J2_hashCode bf_J2_hashCode_53 (tb_c mt_J2_hashCode bf_J2_hashCode_58 (tb_n)))))
theorem bf_X8_hashCode_0 : BOKt mt tX8_hashCode 14 0 b_X8_hashCode_0 := by
  refine bplain (pc' := 1) rfl dX8_hashCode_0 rfl (ihN rfl) rfl ?_
  refine bthr (pc' := 4) rfl dX8_hashCode_1 rfl (lkf0 q1941 lf_37) (trivial) (ihN rfl) rfl ?_
  refine bplain (pc' := 6) rfl dX8_hashCode_4 rfl (ihN rfl) rfl ?_
  refine bplain (pc' := 7) rfl dX8_hashCode_6 rfl (ihN rfl) rfl ?_
  refine bplain (pc' := 8) rfl dX8_hashCode_7 rfl (ihN rfl) rfl ?_
  refine bthr (pc' := 11) rfl dX8_hashCode_8 rfl (lkf0 q1943 lf_38) (trivial) (ihN rfl) rfl ?_
  refine bplain (pc' := 12) rfl dX8_hashCode_11 rfl (ihN rfl) rfl ?_
  refine bplain (pc' := 14) rfl dX8_hashCode_12 rfl (ihN rfl) rfl ?_
  refine bplain (pc' := 15) rfl dX8_hashCode_14 rfl (ihN rfl) rfl ?_
  refine bplain (pc' := 16) rfl dX8_hashCode_15 rfl (ihN rfl) rfl ?_
  refine bthr (pc' := 19) rfl dX8_hashCode_16 rfl (lkf0 q1939 lf_39) (trivial) (ihN rfl) rfl ?_
  refine bplain (pc' := 20) rfl dX8_hashCode_19 rfl (ihN rfl) rfl ?_
  refine bplain (pc' := 23) rfl dX8_hashCode_20 rfl (ihN rfl) rfl ?_
  refine bplain (pc' := 24) rfl dX8_hashCode_23 rfl (ihN rfl) rfl ?_
  refine bret (pc' := 25) rfl dX8_hashCode_24 rfl (Or.inl ⟨rfl, rfl⟩) (ihN rfl) rfl ?_
  exact trivial
theorem tf_X8_hashCode : ∀ x ∈ tb_X8_hashCode, BOK mt 14 x.1 x.2 := tb_c mt_X8_hashCode bf_X8_hashCode_0 (tb_n)
theorem bf_J1_hash_0 : BOKt mt tJ1_hash 15 0 b_J1_hash_0 := by
  refine bplain (pc' := 1) rfl dJ1_hash_0 rfl (ihN rfl) rfl ?_
  refine bjmp (tg := 8) (pc' := 4) rfl (by decide) (by decide) rfl dJ1_hash_1 rfl (ihN rfl) rfl ?_
  refine bplain (pc' := 5) rfl dJ1_hash_4 rfl (ihN rfl) rfl ?_
  refine bjmp (tg := 19) (pc' := 8) rfl (by decide) (by decide) rfl dJ1_hash_5 rfl (ihN rfl) rfl ?_
  exact trivial
theorem bf_J1_hash_8 : BOKt mt tJ1_hash 15 8 b_J1_hash_8 := by
  refine bplain (pc' := 9) rfl dJ1_hash_8 rfl (ihN rfl) rfl ?_
  refine bcall (pc' := 12) rfl dJ1_hash_9 rfl (trivial) (lcv (n := 0) rfl (pvc (lfv mt_J2_hashCode ⟨by decide, by decide⟩ mok_J2_hashCode ⟨by decide, by decide⟩ ⟨q310, ln_40, Or.inr (Or.inr ⟨rfl, ⟨"java/lang/Object", "hashCode", "()I"⟩, "java/lang/Object", q288, q290, lv_41, ln_40, q309, Or.inr q287⟩)⟩) (pvc (lfv mt_J2_hashCode ⟨by decide, by decide⟩ mok_J2_hashCode ⟨by decide, by decide⟩ ⟨q310, ln_40, Or.inr (Or.inr ⟨rfl, ⟨"java/lang/Object", "hashCode", "()I"⟩, "java/lang/Object", q288, q290, lv_41, ln_40, q309, Or.inr q287⟩)⟩) (pvc (lfv mt_X8_hashCode ⟨by decide, by decide⟩ mok_X8_hashCode ⟨by decide, by decide⟩ ⟨q296, ln_40, Or.inr (Or.inr ⟨rfl, ⟨"java/lang/Object", "hashCode", "()I"⟩, "java/lang/Object", q288, q290, lv_41, ln_40, q295, Or.inr q287⟩)⟩) (trivial)))) (Or.inl (by decide))) (ihN rfl) rfl ?_
  refine bplain (pc' := 13) rfl dJ1_hash_12 rfl (ihN rfl) rfl ?_
  refine bplain (pc' := 14) rfl dJ1_hash_13 rfl (ihN rfl) rfl ?_
  refine bplain (pc' := 15) rfl dJ1_hash_14 rfl (ihN rfl) rfl ?_
  refine bplain (pc' := 17) rfl dJ1_hash_15 rfl (ihN rfl) rfl ?_
  refine bplain (pc' := 18) rfl dJ1_hash_17 rfl (ihN rfl) rfl ?_
  refine bplain (pc' := 19) rfl dJ1_hash_18 rfl (ihN rfl) rfl ?_
  exact bnop0 rfl (by decide)
theorem bf_J1_hash_19 : BOKt mt tJ1_hash 15 19 b_J1_hash_19 := by
  refine bnop1 ?_
  refine bret (pc' := 20) rfl dJ1_hash_19 rfl (Or.inl ⟨rfl, rfl⟩) (ihN rfl) rfl ?_
  exact trivial
theorem tf_J1_hash : ∀ x ∈ tb_J1_hash, BOK mt 15 x.1 x.2 := tb_c mt_J1_hash bf_J1_hash_0 (tb_c mt_J1_hash bf_J1_hash_8 (tb_c mt_J1_hash bf_J1_hash_19 (tb_n)))
theorem bf_J1_resize_0 : BOKt mt tJ1_resize 16 0 b_J1_resize_0 := by
  refine bplain (pc' := 1) rfl dJ1_resize_0 rfl (ihN rfl) rfl ?_
  refine bthr (pc' := 4) rfl dJ1_resize_1 rfl (lkf0 q208 lf_42) (trivial) (ihN rfl) rfl ?_
  refine bplain (pc' := 5) rfl dJ1_resize_4 rfl (ihN rfl) rfl ?_
  refine bplain (pc' := 6) rfl dJ1_resize_5 rfl (ihN rfl) rfl ?_
  refine bjmp (tg := 13) (pc' := 9) rfl (by decide) (by decide) rfl dJ1_resize_6 rfl (ihN rfl) rfl ?_
  refine bplain (pc' := 10) rfl dJ1_resize_9 rfl (ihN rfl) rfl ?_
  refine bjmp (tg := 15) (pc' := 13) rfl (by decide) (by decide) rfl dJ1_resize_10 rfl (ihN rfl) rfl ?_
  exact trivial
theorem bf_J1_resize_13 : BOKt mt tJ1_resize 16 13 b_J1_resize_13 := by
  refine bplain (pc' := 14) rfl dJ1_resize_13 rfl (ihN rfl) rfl ?_
  refine bplain (pc' := 15) rfl dJ1_resize_14 rfl (ihN rfl) rfl ?_
  exact bnop0 rfl (by decide)
theorem bf_J1_resize_15 : BOKt mt tJ1_resize 16 15 b_J1_resize_15 := by
  refine bnop1 ?_
  refine bplain (pc' := 16) rfl dJ1_resize_15 rfl (ihN rfl) rfl ?_
  refine bplain (pc' := 17) rfl dJ1_resize_16 rfl (ihN rfl) rfl ?_
  refine bthr (pc' := 20) rfl dJ1_resize_17 rfl (lkf0 q214 lf_43) (trivial) (ihN rfl) rfl ?_
  refine bplain (pc' := 21) rfl dJ1_resize_20 rfl (ihN rfl) rfl ?_
  refine bplain (pc' := 22) rfl dJ1_resize_21 rfl (ihN rfl) rfl ?_
  refine bplain (pc' := 24) rfl dJ1_resize_22 rfl (ihN rfl) rfl ?_
  refine bplain (pc' := 25) rfl dJ1_resize_24 rfl (ihN rfl) rfl ?_
  refine bjmp (tg := 67) (pc' := 28) rfl (by decide) (by decide) rfl dJ1_resize_25 rfl (ihN rfl) rfl ?_
  refine bplain (pc' := 29) rfl dJ1_resize_28 rfl (ihN rfl) rfl ?_
  refine bobj (pc' := 31) rfl dJ1_resize_29 rfl (lkl0 lc_44 q391) (ihN rfl) rfl ?_
  refine bjmp (tg := 42) (pc' := 34) rfl (by decide) (by decide) rfl dJ1_resize_31 rfl (ihN rfl) rfl ?_
  refine bplain (pc' := 35) rfl dJ1_resize_34 rfl (ihN rfl) rfl ?_
  refine bobj (pc' := 37) rfl dJ1_resize_35 rfl (lkl0 lc_45 q392) (ihN rfl) rfl ?_
  refine bobj (pc' := 40) rfl dJ1_resize_37 rfl (⟨lkf0 q214 lf_43, lkp0 lp_46⟩) (ihN rfl) rfl ?_
  refine bplain (pc' := 41) rfl dJ1_resize_40 rfl (ihN rfl) rfl ?_
  refine bret (pc' := 42) rfl dJ1_resize_41 rfl (⟨_, rfl, Or.inr ⟨_, rfl⟩⟩) (ihN rfl) rfl ?_
  exact trivial
theorem bf_J1_resize_42 : BOKt mt tJ1_resize 16 42 b_J1_resize_42 := by
  refine bplain (pc' := 43) rfl dJ1_resize_42 rfl (ihN rfl) rfl ?_
  refine bplain (pc' := 44) rfl dJ1_resize_43 rfl (ihN rfl) rfl ?_
  refine bplain (pc' := 45) rfl dJ1_resize_44 rfl (ihN rfl) rfl ?_
  refine bplain (pc' := 46) rfl dJ1_resize_45 rfl (ihN rfl) rfl ?_
  refine bplain (pc' := 48) rfl dJ1_resize_46 rfl (ihN rfl) rfl ?_
  refine bobj (pc' := 50) rfl dJ1_resize_48 rfl (lkl0 lc_44 q391) (ihN rfl) rfl ?_
  refine bjmp (tg := 85) (pc' := 53) rfl (by decide) (by decide) rfl dJ1_resize_50 rfl (ihN rfl) rfl ?_
  refine bplain (pc' := 54) rfl dJ1_resize_53 rfl (ihN rfl) rfl ?_
  refine bplain (pc' := 56) rfl dJ1_resize_54 rfl (ihN rfl) rfl ?_
  refine bjmp (tg := 85) (pc' := 59) rfl (by decide) (by decide) rfl dJ1_resize_56 rfl (ihN rfl) rfl ?_
  refine bplain (pc' := 60) rfl dJ1_resize_59 rfl (ihN rfl) rfl ?_
  refine bplain (pc' := 61) rfl dJ1_resize_60 rfl (ihN rfl) rfl ?_
  refine bplain (pc' := 62) rfl dJ1_resize_61 rfl (ihN rfl) rfl ?_
  refine bplain (pc' := 64) rfl dJ1_resize_62 rfl (ihN rfl) rfl ?_
  refine bjmp (tg := 85) (pc' := 67) rfl (by decide) (by decide) rfl dJ1_resize_64 rfl (ihN rfl) rfl ?_
  exact trivial
theorem bf_J1_resize_67 : BOKt mt tJ1_resize 16 67 b_J1_resize_67 := by
  refine bplain (pc' := 68) rfl dJ1_resize_67 rfl (ihN rfl) rfl ?_
  refine bjmp (tg := 77) (pc' := 71) rfl (by decide) (by decide) rfl dJ1_resize_68 rfl (ihN rfl) rfl ?_
  refine bplain (pc' := 72) rfl dJ1_resize_71 rfl (ihN rfl) rfl ?_
  refine bplain (pc' := 74) rfl dJ1_resize_72 rfl (ihN rfl) rfl ?_
  refine bjmp (tg := 85) (pc' := 77) rfl (by decide) (by decide) rfl dJ1_resize_74 rfl (ihN rfl) rfl ?_
  exact trivial
theorem bf_J1_resize_77 : BOKt mt tJ1_resize 16 77 b_J1_resize_77 := by
  refine bplain (pc' := 79) rfl dJ1_resize_77 rfl (ihN rfl) rfl ?_
  refine bplain (pc' := 81) rfl dJ1_resize_79 rfl (ihN rfl) rfl ?_
  refine bplain (pc' := 83) rfl dJ1_resize_81 rfl (ihN rfl) rfl ?_
  refine bplain (pc' := 85) rfl dJ1_resize_83 rfl (ihN rfl) rfl ?_
  exact bnop0 rfl (by decide)
theorem bf_J1_resize_85 : BOKt mt tJ1_resize 16 85 b_J1_resize_85 := by
  refine bnop1 ?_
  refine bplain (pc' := 87) rfl dJ1_resize_85 rfl (ihN rfl) rfl ?_
  refine bjmp (tg := 125) (pc' := 90) rfl (by decide) (by decide) rfl dJ1_resize_87 rfl (ihN rfl) rfl ?_
  refine bplain (pc' := 92) rfl dJ1_resize_90 rfl (ihN rfl) rfl ?_
  refine bplain (pc' := 93) rfl dJ1_resize_92 rfl (ihN rfl) rfl ?_
  refine bplain (pc' := 94) rfl dJ1_resize_93 rfl (ihN rfl) rfl ?_
  refine bthr (pc' := 97) rfl dJ1_resize_94 rfl (lkf0 q215 lf_1) (trivial) (ihN rfl) rfl ?_
  refine bplain (pc' := 98) rfl dJ1_resize_97 rfl (ihN rfl) rfl ?_
  refine bplain (pc' := 100) rfl dJ1_resize_98 rfl (ihN rfl) rfl ?_
  refine bplain (pc' := 102) rfl dJ1_resize_100 rfl (ihN rfl) rfl ?_
  refine bobj (pc' := 104) rfl dJ1_resize_102 rfl (lkl0 lc_44 q391) (ihN rfl) rfl ?_
  refine bjmp (tg := 121) (pc' := 107) rfl (by decide) (by decide) rfl dJ1_resize_104 rfl (ihN rfl) rfl ?_
  refine bplain (pc' := 109) rfl dJ1_resize_107 rfl (ihN rfl) rfl ?_
  refine bobj (pc' := 111) rfl dJ1_resize_109 rfl (lkl1 rfl q393) (ihN rfl) rfl ?_
  refine bplain (pc' := 112) rfl dJ1_resize_111 rfl (ihN rfl) rfl ?_
  refine bjmp (tg := 121) (pc' := 115) rfl (by decide) (by decide) rfl dJ1_resize_112 rfl (ihN rfl) rfl ?_
  refine bplain (pc' := 117) rfl dJ1_resize_115 rfl (ihN rfl) rfl ?_
  refine bplain (pc' := 118) rfl dJ1_resize_117 rfl (ihN rfl) rfl ?_
  refine bjmp (tg := 123) (pc' := 121) rfl (by decide) (by decide) rfl dJ1_resize_118 rfl (ihN rfl) rfl ?_
  exact trivial
theorem bf_J1_resize_121 : BOKt mt tJ1_resize 16 121 b_J1_resize_121 := by
  refine bnop1 ?_
  refine bobj (pc' := 123) rfl dJ1_resize_121 rfl (lkl0 lc_45 q392) (ihN rfl) rfl ?_
  exact bnop0 rfl (by decide)
theorem bf_J1_resize_123 : BOKt mt tJ1_resize 16 123 b_J1_resize_123 := by
  refine bnop1 ?_
  refine bplain (pc' := 125) rfl dJ1_resize_123 rfl (ihN rfl) rfl ?_
  exact bnop0 rfl (by decide)
theorem bf_J1_resize_125 : BOKt mt tJ1_resize 16 125 b_J1_resize_125 := by
  refine bnop1 ?_
  refine bplain (pc' := 126) rfl dJ1_resize_125 rfl (ihN rfl) rfl ?_
  refine bplain (pc' := 128) rfl dJ1_resize_126 rfl (ihN rfl) rfl ?_
  refine bobj (pc' := 131) rfl dJ1_resize_128 rfl (⟨lkf0 q214 lf_43, lkp0 lp_46⟩) (ihN rfl) rfl ?_
  refine bplain (pc' := 133) rfl dJ1_resize_131 rfl (ihN rfl) rfl ?_
  refine bobj (pc' := 136) rfl dJ1_resize_133 rfl (⟨"java/util/HashMap$Node", by decide, rfl, q394, q395⟩) (ihN rfl) rfl ?_
  refine bplain (pc' := 138) rfl dJ1_resize_136 rfl (ihN rfl) rfl ?_
  refine bplain (pc' := 139) rfl dJ1_resize_138 rfl (ihN rfl) rfl ?_
  refine bplain (pc' := 141) rfl dJ1_resize_139 rfl (ihN rfl) rfl ?_
  refine bobj (pc' := 144) rfl dJ1_resize_141 rfl (⟨lkf0 q208 lf_42, lkp0 lp_47⟩) (ihN rfl) rfl ?_
  refine bplain (pc' := 145) rfl dJ1_resize_144 rfl (ihN rfl) rfl ?_
  refine bjmp (tg := 353) (pc' := 148) rfl (by decide) (by decide) rfl dJ1_resize_145 rfl (ihN rfl) rfl ?_
  refine bplain (pc' := 149) rfl dJ1_resize_148 rfl (ihN rfl) rfl ?_
  refine bplain (pc' := 151) rfl dJ1_resize_149 rfl (ihN rfl) rfl ?_
  exact bnop0 rfl (by decide)
theorem bf_J1_resize_151 : BOKt mt tJ1_resize 16 151 b_J1_resize_151 := by
  refine bnop1 ?_
  refine bplain (pc' := 153) rfl dJ1_resize_151 rfl (ihN rfl) rfl ?_
  refine bplain (pc' := 154) rfl dJ1_resize_153 rfl (ihN rfl) rfl ?_
  refine bjmp (tg := 353) (pc' := 157) rfl (by decide) (by decide) rfl dJ1_resize_154 rfl (ihN rfl) rfl ?_
  refine bplain (pc' := 158) rfl dJ1_resize_157 rfl (ihN rfl) rfl ?_
  refine bplain (pc' := 160) rfl dJ1_resize_158 rfl (ihN rfl) rfl ?_
  refine bplain (pc' := 161) rfl dJ1_resize_160 rfl (ihN rfl) rfl ?_
  refine bplain (pc' := 162) rfl dJ1_resize_161 rfl (ihN rfl) rfl ?_
  refine bplain (pc' := 164) rfl dJ1_resize_162 rfl (ihN rfl) rfl ?_
  refine bjmp (tg := 347) (pc' := 167) rfl (by decide) (by decide) rfl dJ1_resize_164 rfl (ihN rfl) rfl ?_
  refine bplain (pc' := 168) rfl dJ1_resize_167 rfl (ihN rfl) rfl ?_
  refine bplain (pc' := 170) rfl dJ1_resize_168 rfl (ihN rfl) rfl ?_
  refine bplain (pc' := 171) rfl dJ1_resize_170 rfl (ihN rfl) rfl ?_
  refine bplain (pc' := 172) rfl dJ1_resize_171 rfl (ihN rfl) rfl ?_
  refine bplain (pc' := 174) rfl dJ1_resize_172 rfl (ihN rfl) rfl ?_
  refine bthr (pc' := 177) rfl dJ1_resize_174 rfl (lkf0 q448 lf_48) (trivial) (ihN rfl) rfl ?_
  refine bjmp (tg := 198) (pc' := 180) rfl (by decide) (by decide) rfl dJ1_resize_177 rfl (ihN rfl) rfl ?_
  refine bplain (pc' := 182) rfl dJ1_resize_180 rfl (ihN rfl) rfl ?_
  refine bplain (pc' := 184) rfl dJ1_resize_182 rfl (ihN rfl) rfl ?_
  refine bthr (pc' := 187) rfl dJ1_resize_184 rfl (lkf0 q431 lf_49) (trivial) (ihN rfl) rfl ?_
  refine bplain (pc' := 189) rfl dJ1_resize_187 rfl (ihN rfl) rfl ?_
  refine bplain (pc' := 190) rfl dJ1_resize_189 rfl (ihN rfl) rfl ?_
  refine bplain (pc' := 191) rfl dJ1_resize_190 rfl (ihN rfl) rfl ?_
  refine bplain (pc' := 192) rfl dJ1_resize_191 rfl (ihN rfl) rfl ?_
  refine bplain (pc' := 194) rfl dJ1_resize_192 rfl (ihN rfl) rfl ?_
  refine bplain (pc' := 195) rfl dJ1_resize_194 rfl (ihN rfl) rfl ?_
  refine bjmp (tg := 347) (pc' := 198) rfl (by decide) (by decide) rfl dJ1_resize_195 rfl (ihN rfl) rfl ?_
  exact trivial
theorem bf_J1_resize_198 : BOKt mt tJ1_resize 16 198 b_J1_resize_198 := by
  refine bplain (pc' := 200) rfl dJ1_resize_198 rfl (ihN rfl) rfl ?_
  refine bobj (pc' := 203) rfl dJ1_resize_200 rfl (lkc (nm := "java/util/HashMap$TreeNode") q396 lg_50 lb_51) (ihN rfl) rfl ?_
  refine bjmp (tg := 223) (pc' := 206) rfl (by decide) (by decide) rfl dJ1_resize_203 rfl (ihN rfl) rfl ?_
  refine bplain (pc' := 208) rfl dJ1_resize_206 rfl (ihN rfl) rfl ?_
  refine bthr (pc' := 211) rfl dJ1_resize_208 rfl (lkc (nm := "java/util/HashMap$TreeNode") q396 lg_50 lb_52) (Or.inl rfl) (ihN rfl) rfl ?_
  refine bplain (pc' := 212) rfl dJ1_resize_211 rfl (ihN rfl) rfl ?_
  refine bplain (pc' := 214) rfl dJ1_resize_212 rfl (ihN rfl) rfl ?_
  refine bplain (pc' := 216) rfl dJ1_resize_214 rfl (ihN rfl) rfl ?_
  refine bplain (pc' := 217) rfl dJ1_resize_216 rfl (ihN rfl) rfl ?_
  refine bcall (pc' := 220) rfl dJ1_resize_217 rfl (trivial) (trivial) (ihN rfl) rfl ?_
  refine bjmp (tg := 347) (pc' := 223) rfl (by decide) (by decide) rfl dJ1_resize_220 rfl (ihN rfl) rfl ?_
  exact trivial
theorem bf_J1_resize_223 : BOKt mt tJ1_resize 16 223 b_J1_resize_223 := by
  refine bplain (pc' := 224) rfl dJ1_resize_223 rfl (ihN rfl) rfl ?_
  refine bplain (pc' := 226) rfl dJ1_resize_224 rfl (ihN rfl) rfl ?_
  refine bplain (pc' := 227) rfl dJ1_resize_226 rfl (ihN rfl) rfl ?_
  refine bplain (pc' := 229) rfl dJ1_resize_227 rfl (ihN rfl) rfl ?_
  refine bplain (pc' := 230) rfl dJ1_resize_229 rfl (ihN rfl) rfl ?_
  refine bplain (pc' := 232) rfl dJ1_resize_230 rfl (ihN rfl) rfl ?_
  refine bplain (pc' := 233) rfl dJ1_resize_232 rfl (ihN rfl) rfl ?_
  refine bplain (pc' := 235) rfl dJ1_resize_233 rfl (ihN rfl) rfl ?_
  exact bnop0 rfl (by decide)
theorem bf_J1_resize_235 : BOKt mt tJ1_resize 16 235 b_J1_resize_235 := by
  refine bnop1 ?_
  refine bplain (pc' := 237) rfl dJ1_resize_235 rfl (ihN rfl) rfl ?_
  refine bthr (pc' := 240) rfl dJ1_resize_237 rfl (lkf0 q448 lf_48) (trivial) (ihN rfl) rfl ?_
  refine bplain (pc' := 242) rfl dJ1_resize_240 rfl (ihN rfl) rfl ?_
  refine bplain (pc' := 244) rfl dJ1_resize_242 rfl (ihN rfl) rfl ?_
  refine bthr (pc' := 247) rfl dJ1_resize_244 rfl (lkf0 q431 lf_49) (trivial) (ihN rfl) rfl ?_
  refine bplain (pc' := 248) rfl dJ1_resize_247 rfl (ihN rfl) rfl ?_
  refine bplain (pc' := 249) rfl dJ1_resize_248 rfl (ihN rfl) rfl ?_
  refine bjmp (tg := 278) (pc' := 252) rfl (by decide) (by decide) rfl dJ1_resize_249 rfl (ihN rfl) rfl ?_
  refine bplain (pc' := 254) rfl dJ1_resize_252 rfl (ihN rfl) rfl ?_
  refine bjmp (tg := 264) (pc' := 257) rfl (by decide) (by decide) rfl dJ1_resize_254 rfl (ihN rfl) rfl ?_
  refine bplain (pc' := 259) rfl dJ1_resize_257 rfl (ihN rfl) rfl ?_
  refine bplain (pc' := 261) rfl dJ1_resize_259 rfl (ihN rfl) rfl ?_
  refine bjmp (tg := 271) (pc' := 264) rfl (by decide) (by decide) rfl dJ1_resize_261 rfl (ihN rfl) rfl ?_
  exact trivial
theorem bf_J1_resize_264 : BOKt mt tJ1_resize 16 264 b_J1_resize_264 := by
  refine bplain (pc' := 266) rfl dJ1_resize_264 rfl (ihN rfl) rfl ?_
  refine bplain (pc' := 268) rfl dJ1_resize_266 rfl (ihN rfl) rfl ?_
  refine bobj (pc' := 271) rfl dJ1_resize_268 rfl (⟨lkf0 q448 lf_48, lkp0 lp_53⟩) (ihN rfl) rfl ?_
  exact bnop0 rfl (by decide)
theorem bf_J1_resize_271 : BOKt mt tJ1_resize 16 271 b_J1_resize_271 := by
  refine bnop1 ?_
  refine bplain (pc' := 273) rfl dJ1_resize_271 rfl (ihN rfl) rfl ?_
  refine bplain (pc' := 275) rfl dJ1_resize_273 rfl (ihN rfl) rfl ?_
  refine bjmp (tg := 301) (pc' := 278) rfl (by decide) (by decide) rfl dJ1_resize_275 rfl (ihN rfl) rfl ?_
  exact trivial
theorem bf_J1_resize_278 : BOKt mt tJ1_resize 16 278 b_J1_resize_278 := by
  refine bplain (pc' := 280) rfl dJ1_resize_278 rfl (ihN rfl) rfl ?_
  refine bjmp (tg := 290) (pc' := 283) rfl (by decide) (by decide) rfl dJ1_resize_280 rfl (ihN rfl) rfl ?_
  refine bplain (pc' := 285) rfl dJ1_resize_283 rfl (ihN rfl) rfl ?_
  refine bplain (pc' := 287) rfl dJ1_resize_285 rfl (ihN rfl) rfl ?_
  refine bjmp (tg := 297) (pc' := 290) rfl (by decide) (by decide) rfl dJ1_resize_287 rfl (ihN rfl) rfl ?_
  exact trivial
theorem bf_J1_resize_290 : BOKt mt tJ1_resize 16 290 b_J1_resize_290 := by
  refine bplain (pc' := 292) rfl dJ1_resize_290 rfl (ihN rfl) rfl ?_
  refine bplain (pc' := 294) rfl dJ1_resize_292 rfl (ihN rfl) rfl ?_
  refine bobj (pc' := 297) rfl dJ1_resize_294 rfl (⟨lkf0 q448 lf_48, lkp0 lp_53⟩) (ihN rfl) rfl ?_
  exact bnop0 rfl (by decide)
theorem bf_J1_resize_297 : BOKt mt tJ1_resize 16 297 b_J1_resize_297 := by
  refine bnop1 ?_
  refine bplain (pc' := 299) rfl dJ1_resize_297 rfl (ihN rfl) rfl ?_
  refine bplain (pc' := 301) rfl dJ1_resize_299 rfl (ihN rfl) rfl ?_
  exact bnop0 rfl (by decide)
theorem bf_J1_resize_301 : BOKt mt tJ1_resize 16 301 b_J1_resize_301 := by
  refine bnop1 ?_
  refine bplain (pc' := 303) rfl dJ1_resize_301 rfl (ihN rfl) rfl ?_
  refine bplain (pc' := 304) rfl dJ1_resize_303 rfl (ihN rfl) rfl ?_
  refine bplain (pc' := 306) rfl dJ1_resize_304 rfl (ihN rfl) rfl ?_
  refine bjmp (tg := 235) (pc' := 309) rfl (by decide) (by decide) rfl dJ1_resize_306 rfl (ihN rfl) rfl ?_
  refine bplain (pc' := 311) rfl dJ1_resize_309 rfl (ihN rfl) rfl ?_
  refine bjmp (tg := 327) (pc' := 314) rfl (by decide) (by decide) rfl dJ1_resize_311 rfl (ihN rfl) rfl ?_
  refine bplain (pc' := 316) rfl dJ1_resize_314 rfl (ihN rfl) rfl ?_
  refine bplain (pc' := 317) rfl dJ1_resize_316 rfl (ihN rfl) rfl ?_
  refine bobj (pc' := 320) rfl dJ1_resize_317 rfl (⟨lkf0 q448 lf_48, lkp0 lp_53⟩) (ihN rfl) rfl ?_
  refine bplain (pc' := 322) rfl dJ1_resize_320 rfl (ihN rfl) rfl ?_
  refine bplain (pc' := 324) rfl dJ1_resize_322 rfl (ihN rfl) rfl ?_
  refine bplain (pc' := 326) rfl dJ1_resize_324 rfl (ihN rfl) rfl ?_
  refine bplain (pc' := 327) rfl dJ1_resize_326 rfl (ihN rfl) rfl ?_
  exact bnop0 rfl (by decide)
theorem bf_J1_resize_327 : BOKt mt tJ1_resize 16 327 b_J1_resize_327 := by
  refine bnop1 ?_
  refine bplain (pc' := 329) rfl dJ1_resize_327 rfl (ihN rfl) rfl ?_
  refine bjmp (tg := 347) (pc' := 332) rfl (by decide) (by decide) rfl dJ1_resize_329 rfl (ihN rfl) rfl ?_
  refine bplain (pc' := 334) rfl dJ1_resize_332 rfl (ihN rfl) rfl ?_
  refine bplain (pc' := 335) rfl dJ1_resize_334 rfl (ihN rfl) rfl ?_
  refine bobj (pc' := 338) rfl dJ1_resize_335 rfl (⟨lkf0 q448 lf_48, lkp0 lp_53⟩) (ihN rfl) rfl ?_
  refine bplain (pc' := 340) rfl dJ1_resize_338 rfl (ihN rfl) rfl ?_
  refine bplain (pc' := 342) rfl dJ1_resize_340 rfl (ihN rfl) rfl ?_
  refine bplain (pc' := 343) rfl dJ1_resize_342 rfl (ihN rfl) rfl ?_
  refine bplain (pc' := 344) rfl dJ1_resize_343 rfl (ihN rfl) rfl ?_
  refine bplain (pc' := 346) rfl dJ1_resize_344 rfl (ihN rfl) rfl ?_
  refine bplain (pc' := 347) rfl dJ1_resize_346 rfl (ihN rfl) rfl ?_
  exact bnop0 rfl (by decide)
theorem bf_J1_resize_347 : BOKt mt tJ1_resize 16 347 b_J1_resize_347 := by
  refine bnop1 ?_
  refine bplain (pc' := 350) rfl dJ1_resize_347 rfl (ihN rfl) rfl ?_
  refine bjmp (tg := 151) (pc' := 353) rfl (by decide) (by decide) rfl dJ1_resize_350 rfl (ihN rfl) rfl ?_
  exact trivial
theorem bf_J1_resize_353 : BOKt mt tJ1_resize 16 353 b_J1_resize_353 := by
  refine bnop1 ?_
  refine bplain (pc' := 355) rfl dJ1_resize_353 rfl (ihN rfl) rfl ?_
  refine bret (pc' := 356) rfl dJ1_resize_355 rfl (⟨_, rfl, Or.inr ⟨_, rfl⟩⟩) (ihN rfl) rfl ?_
  exact trivial
theorem tf_J1_resize : ∀ x ∈ tb_J1_resize, BOK mt 16 x.1 x.2 := tb_c mt_J1_resize bf_J1_resize_0 (tb_c mt_J1_resize bf_J1_resize_13 (tb_c mt_J1_resize bf_J1_resize_15 (tb_c mt_J1_resize bf_J1_resize_42 (tb_c mt_J1_resize bf_J1_resize_67 (tb_c mt_J1_resize bf_J1_resize_77 (tb_c mt_J1_resize bf_J1_resize_85 (tb_c mt_J1_resize bf_J1_resize_121 (tb_c mt_J1_resize bf_J1_resize_123 (tb_c mt_J1_resize bf_J1_resize_125 (tb_c mt_J1_resize bf_J1_resize_151 (tb_c mt_J1_resize bf_J1_resize_198 (tb_c mt_J1_resize bf_J1_resize_223 (tb_c mt_J1_resize bf_J1_resize_235 (tb_c mt_J1_resize bf_J1_resize_264 (tb_c mt_J1_resize bf_J1_resize_271 (tb_c mt_J1_resize bf_J1_resize_278 (tb_c mt_J1_resize bf_J1_resize_290 (tb_c mt_J1_resize bf_J1_resize_297 (tb_c mt_J1_resize bf_J1_resize_301 (tb_c mt_J1_resize bf_J1_resize_327 (tb_c mt_J1_resize bf_J1_resize_347 (tb_c mt_J1_resize bf_J1_resize_353 (tb_n)))))))))))))))))))))))
theorem bf_J6_init_0 : BOKt mt tJ6_init 17 0 b_J6_init_0 := by
  refine bplain (pc' := 1) rfl dJ6_init_0 rfl (ihN rfl) rfl ?_
  refine bcall (pc' := 4) rfl dJ6_init_1 rfl (trivial) (lco rfl ⟨q421, q193, q194⟩) (ihN rfl) rfl ?_
  refine bplain (pc' := 5) rfl dJ6_init_4 rfl (ihN rfl) rfl ?_
  refine bplain (pc' := 6) rfl dJ6_init_5 rfl (ihN rfl) rfl ?_
  refine bobj (pc' := 9) rfl dJ6_init_6 rfl (⟨lkf0 q426 lf_49, lkp1 rfl lp_54⟩) (ihN rfl) rfl ?_
  refine bplain (pc' := 10) rfl dJ6_init_9 rfl (ihN rfl) rfl ?_
  refine bplain (pc' := 11) rfl dJ6_init_10 rfl (ihN rfl) rfl ?_
  refine bobj (pc' := 14) rfl dJ6_init_11 rfl (⟨lkf0 q432 lf_55, lkp1 rfl lp_56⟩) (ihN rfl) rfl ?_
  refine bplain (pc' := 15) rfl dJ6_init_14 rfl (ihN rfl) rfl ?_
  refine bplain (pc' := 16) rfl dJ6_init_15 rfl (ihN rfl) rfl ?_
  refine bobj (pc' := 19) rfl dJ6_init_16 rfl (⟨lkf0 q438 lf_57, lkp0 lp_58⟩) (ihN rfl) rfl ?_
  refine bplain (pc' := 20) rfl dJ6_init_19 rfl (ihN rfl) rfl ?_
  refine bplain (pc' := 22) rfl dJ6_init_20 rfl (ihN rfl) rfl ?_
  refine bobj (pc' := 25) rfl dJ6_init_22 rfl (⟨lkf0 q444 lf_48, lkp0 lp_53⟩) (ihN rfl) rfl ?_
  refine bret (pc' := 26) rfl dJ6_init_25 rfl (rfl) (ihN rfl) rfl ?_
  exact trivial
theorem tf_J6_init : ∀ x ∈ tb_J6_init, BOK mt 17 x.1 x.2 := tb_c mt_J6_init bf_J6_init_0 (tb_n)
theorem bf_J1_newNode_0 : BOKt mt tJ1_newNode 18 0 b_J1_newNode_0 := by
  refine bthr (pc' := 3) rfl dJ1_newNode_0 rfl (⟨⟨by decide, by decide, by decide⟩, rfl, q394, q469, q142⟩) (trivial) (ihN rfl) rfl ?_
  refine bplain (pc' := 4) rfl dJ1_newNode_3 rfl (ihN rfl) rfl ?_
  refine bplain (pc' := 5) rfl dJ1_newNode_4 rfl (ihN rfl) rfl ?_
  refine bplain (pc' := 6) rfl dJ1_newNode_5 rfl (ihN rfl) rfl ?_
  refine bplain (pc' := 7) rfl dJ1_newNode_6 rfl (ihN rfl) rfl ?_
  refine bplain (pc' := 9) rfl dJ1_newNode_7 rfl (ihN rfl) rfl ?_
  refine bcall (pc' := 12) rfl dJ1_newNode_9 rfl (trivial) (lci mt_J6_init ⟨by decide, by decide⟩ mok_J6_init rfl rfl rfl ln_59 q419 rfl (Or.inl q470)) (ihN rfl) rfl ?_
  refine bret (pc' := 13) rfl dJ1_newNode_12 rfl (⟨_, rfl, Or.inl ⟨_, rfl⟩⟩) (ihN rfl) rfl ?_
  exact trivial
theorem tf_J1_newNode : ∀ x ∈ tb_J1_newNode, BOK mt 18 x.1 x.2 := tb_c mt_J1_newNode bf_J1_newNode_0 (tb_n)
theorem bf_J7_init_0 : BOKt mt tJ7_init 19 0 b_J7_init_0 := by
  refine bplain (pc' := 1) rfl dJ7_init_0 rfl (ihN rfl) rfl ?_
  refine bplain (pc' := 2) rfl dJ7_init_1 rfl (ihN rfl) rfl ?_
  refine bplain (pc' := 3) rfl dJ7_init_2 rfl (ihN rfl) rfl ?_
  refine bplain (pc' := 4) rfl dJ7_init_3 rfl (ihN rfl) rfl ?_
  refine bplain (pc' := 6) rfl dJ7_init_4 rfl (ihN rfl) rfl ?_
  refine bcall (pc' := 9) rfl dJ7_init_6 rfl (trivial) (lci mt_J6_init ⟨by decide, by decide⟩ mok_J6_init rfl rfl rfl ln_59 q419 rfl (Or.inl q418)) (ihN rfl) rfl ?_
  refine bret (pc' := 10) rfl dJ7_init_9 rfl (rfl) (ihN rfl) rfl ?_
  exact trivial
theorem tf_J7_init : ∀ x ∈ tb_J7_init, BOK mt 19 x.1 x.2 := tb_c mt_J7_init bf_J7_init_0 (tb_n)
theorem bf_J34_linkNodeAtEnd_0 : BOKt mt tJ34_linkNodeAtEnd 20 0 b_J34_linkNodeAtEnd_0 := by
  refine bplain (pc' := 1) rfl dJ34_linkNodeAtEnd_0 rfl (ihN rfl) rfl ?_
  refine bthr (pc' := 4) rfl dJ34_linkNodeAtEnd_1 rfl (lkf0 q1993 lf_60) (trivial) (ihN rfl) rfl ?_
  refine bplain (pc' := 5) rfl dJ34_linkNodeAtEnd_4 rfl (ihN rfl) rfl ?_
  refine bjmp (tg := 43) (pc' := 8) rfl (by decide) (by decide) rfl dJ34_linkNodeAtEnd_5 rfl (ihN rfl) rfl ?_
  refine bplain (pc' := 9) rfl dJ34_linkNodeAtEnd_8 rfl (ihN rfl) rfl ?_
  refine bthr (pc' := 12) rfl dJ34_linkNodeAtEnd_9 rfl (lkf0 q1988 lf_61) (trivial) (ihN rfl) rfl ?_
  refine bplain (pc' := 13) rfl dJ34_linkNodeAtEnd_12 rfl (ihN rfl) rfl ?_
  refine bplain (pc' := 14) rfl dJ34_linkNodeAtEnd_13 rfl (ihN rfl) rfl ?_
  refine bplain (pc' := 15) rfl dJ34_linkNodeAtEnd_14 rfl (ihN rfl) rfl ?_
  refine bobj (pc' := 18) rfl dJ34_linkNodeAtEnd_15 rfl (⟨lkf0 q1988 lf_61, lkp0 lp_62⟩) (ihN rfl) rfl ?_
  refine bplain (pc' := 19) rfl dJ34_linkNodeAtEnd_18 rfl (ihN rfl) rfl ?_
  refine bjmp (tg := 30) (pc' := 22) rfl (by decide) (by decide) rfl dJ34_linkNodeAtEnd_19 rfl (ihN rfl) rfl ?_
  refine bplain (pc' := 23) rfl dJ34_linkNodeAtEnd_22 rfl (ihN rfl) rfl ?_
  refine bplain (pc' := 24) rfl dJ34_linkNodeAtEnd_23 rfl (ihN rfl) rfl ?_
  refine bobj (pc' := 27) rfl dJ34_linkNodeAtEnd_24 rfl (⟨lkf0 q1991 lf_63, lkp0 lp_64⟩) (ihN rfl) rfl ?_
  refine bjmp (tg := 40) (pc' := 30) rfl (by decide) (by decide) rfl dJ34_linkNodeAtEnd_27 rfl (ihN rfl) rfl ?_
  exact trivial
theorem bf_J34_linkNodeAtEnd_30 : BOKt mt tJ34_linkNodeAtEnd 20 30 b_J34_linkNodeAtEnd_30 := by
  refine bplain (pc' := 31) rfl dJ34_linkNodeAtEnd_30 rfl (ihN rfl) rfl ?_
  refine bplain (pc' := 32) rfl dJ34_linkNodeAtEnd_31 rfl (ihN rfl) rfl ?_
  refine bobj (pc' := 35) rfl dJ34_linkNodeAtEnd_32 rfl (⟨lkf0 q424 lf_65, lkp0 lp_66⟩) (ihN rfl) rfl ?_
  refine bplain (pc' := 36) rfl dJ34_linkNodeAtEnd_35 rfl (ihN rfl) rfl ?_
  refine bplain (pc' := 37) rfl dJ34_linkNodeAtEnd_36 rfl (ihN rfl) rfl ?_
  refine bobj (pc' := 40) rfl dJ34_linkNodeAtEnd_37 rfl (⟨lkf0 q422 lf_67, lkp0 lp_68⟩) (ihN rfl) rfl ?_
  exact bnop0 rfl (by decide)
theorem bf_J34_linkNodeAtEnd_40 : BOKt mt tJ34_linkNodeAtEnd 20 40 b_J34_linkNodeAtEnd_40 := by
  refine bnop1 ?_
  refine bjmp (tg := 75) (pc' := 43) rfl (by decide) (by decide) rfl dJ34_linkNodeAtEnd_40 rfl (ihN rfl) rfl ?_
  exact trivial
theorem bf_J34_linkNodeAtEnd_43 : BOKt mt tJ34_linkNodeAtEnd 20 43 b_J34_linkNodeAtEnd_43 := by
  refine bplain (pc' := 44) rfl dJ34_linkNodeAtEnd_43 rfl (ihN rfl) rfl ?_
  refine bthr (pc' := 47) rfl dJ34_linkNodeAtEnd_44 rfl (lkf0 q1991 lf_63) (trivial) (ihN rfl) rfl ?_
  refine bplain (pc' := 48) rfl dJ34_linkNodeAtEnd_47 rfl (ihN rfl) rfl ?_
  refine bplain (pc' := 49) rfl dJ34_linkNodeAtEnd_48 rfl (ihN rfl) rfl ?_
  refine bplain (pc' := 50) rfl dJ34_linkNodeAtEnd_49 rfl (ihN rfl) rfl ?_
  refine bobj (pc' := 53) rfl dJ34_linkNodeAtEnd_50 rfl (⟨lkf0 q1991 lf_63, lkp0 lp_64⟩) (ihN rfl) rfl ?_
  refine bplain (pc' := 54) rfl dJ34_linkNodeAtEnd_53 rfl (ihN rfl) rfl ?_
  refine bjmp (tg := 65) (pc' := 57) rfl (by decide) (by decide) rfl dJ34_linkNodeAtEnd_54 rfl (ihN rfl) rfl ?_
  refine bplain (pc' := 58) rfl dJ34_linkNodeAtEnd_57 rfl (ihN rfl) rfl ?_
  refine bplain (pc' := 59) rfl dJ34_linkNodeAtEnd_58 rfl (ihN rfl) rfl ?_
  refine bobj (pc' := 62) rfl dJ34_linkNodeAtEnd_59 rfl (⟨lkf0 q1988 lf_61, lkp0 lp_62⟩) (ihN rfl) rfl ?_
  refine bjmp (tg := 75) (pc' := 65) rfl (by decide) (by decide) rfl dJ34_linkNodeAtEnd_62 rfl (ihN rfl) rfl ?_
  exact trivial
theorem bf_J34_linkNodeAtEnd_65 : BOKt mt tJ34_linkNodeAtEnd 20 65 b_J34_linkNodeAtEnd_65 := by
  refine bplain (pc' := 66) rfl dJ34_linkNodeAtEnd_65 rfl (ihN rfl) rfl ?_
  refine bplain (pc' := 67) rfl dJ34_linkNodeAtEnd_66 rfl (ihN rfl) rfl ?_
  refine bobj (pc' := 70) rfl dJ34_linkNodeAtEnd_67 rfl (⟨lkf0 q422 lf_67, lkp0 lp_68⟩) (ihN rfl) rfl ?_
  refine bplain (pc' := 71) rfl dJ34_linkNodeAtEnd_70 rfl (ihN rfl) rfl ?_
  refine bplain (pc' := 72) rfl dJ34_linkNodeAtEnd_71 rfl (ihN rfl) rfl ?_
  refine bobj (pc' := 75) rfl dJ34_linkNodeAtEnd_72 rfl (⟨lkf0 q424 lf_65, lkp0 lp_66⟩) (ihN rfl) rfl ?_
  exact bnop0 rfl (by decide)
theorem bf_J34_linkNodeAtEnd_75 : BOKt mt tJ34_linkNodeAtEnd 20 75 b_J34_linkNodeAtEnd_75 := by
  refine bnop1 ?_
  refine bret (pc' := 76) rfl dJ34_linkNodeAtEnd_75 rfl (rfl) (ihN rfl) rfl ?_
  exact trivial
theorem tf_J34_linkNodeAtEnd : ∀ x ∈ tb_J34_linkNodeAtEnd, BOK mt 20 x.1 x.2 := tb_c mt_J34_linkNodeAtEnd bf_J34_linkNodeAtEnd_0 (tb_c mt_J34_linkNodeAtEnd bf_J34_linkNodeAtEnd_30 (tb_c mt_J34_linkNodeAtEnd bf_J34_linkNodeAtEnd_40 (tb_c mt_J34_linkNodeAtEnd bf_J34_linkNodeAtEnd_43 (tb_c mt_J34_linkNodeAtEnd bf_J34_linkNodeAtEnd_65 (tb_c mt_J34_linkNodeAtEnd bf_J34_linkNodeAtEnd_75 (tb_n))))))
theorem bf_J34_newNode_0 : BOKt mt tJ34_newNode 21 0 b_J34_newNode_0 := by
  refine bthr (pc' := 3) rfl dJ34_newNode_0 rfl (⟨⟨by decide, by decide, by decide⟩, rfl, q413, q414, q143⟩) (trivial) (ihN rfl) rfl ?_
  refine bplain (pc' := 4) rfl dJ34_newNode_3 rfl (ihN rfl) rfl ?_
  refine bplain (pc' := 5) rfl dJ34_newNode_4 rfl (ihN rfl) rfl ?_
  refine bplain (pc' := 6) rfl dJ34_newNode_5 rfl (ihN rfl) rfl ?_
  refine bplain (pc' := 7) rfl dJ34_newNode_6 rfl (ihN rfl) rfl ?_
  refine bplain (pc' := 9) rfl dJ34_newNode_7 rfl (ihN rfl) rfl ?_
  refine bcall (pc' := 12) rfl dJ34_newNode_9 rfl (trivial) (lci mt_J7_init ⟨by decide, by decide⟩ mok_J7_init rfl rfl rfl ln_59 q416 rfl (Or.inl q415)) (ihN rfl) rfl ?_
  refine bplain (pc' := 14) rfl dJ34_newNode_12 rfl (ihN rfl) rfl ?_
  refine bplain (pc' := 15) rfl dJ34_newNode_14 rfl (ihN rfl) rfl ?_
  refine bplain (pc' := 17) rfl dJ34_newNode_15 rfl (ihN rfl) rfl ?_
  refine bcall (pc' := 20) rfl dJ34_newNode_17 rfl (trivial) (lcv (n := 1) rfl (pvc (lfv mt_J34_linkNodeAtEnd ⟨by decide, by decide⟩ mok_J34_linkNodeAtEnd ⟨by decide, by decide⟩ ⟨q747, ln_69, Or.inl ⟨q745, Or.inl qs1⟩⟩) (trivial)) (Or.inl (by decide))) (ihN rfl) rfl ?_
  refine bplain (pc' := 22) rfl dJ34_newNode_20 rfl (ihN rfl) rfl ?_
  refine bret (pc' := 23) rfl dJ34_newNode_22 rfl (⟨_, rfl, Or.inl ⟨_, rfl⟩⟩) (ihN rfl) rfl ?_
  exact trivial
theorem tf_J34_newNode : ∀ x ∈ tb_J34_newNode, BOK mt 21 x.1 x.2 := tb_c mt_J34_newNode bf_J34_newNode_0 (tb_n)
theorem bf_J40_equals_0 : BOKt mt tJ40_equals 22 0 b_J40_equals_0 := by
  refine bplain (pc' := 1) rfl dJ40_equals_0 rfl (ihN rfl) rfl ?_
  refine bplain (pc' := 2) rfl dJ40_equals_1 rfl (ihN rfl) rfl ?_
  refine bjmp (tg := 9) (pc' := 5) rfl (by decide) (by decide) rfl dJ40_equals_2 rfl (ihN rfl) rfl ?_
  refine bplain (pc' := 6) rfl dJ40_equals_5 rfl (ihN rfl) rfl ?_
  refine bjmp (tg := 10) (pc' := 9) rfl (by decide) (by decide) rfl dJ40_equals_6 rfl (ihN rfl) rfl ?_
  exact trivial
theorem bf_J40_equals_9 : BOKt mt tJ40_equals 22 9 b_J40_equals_9 := by
  refine bplain (pc' := 10) rfl dJ40_equals_9 rfl (ihN rfl) rfl ?_
  exact bnop0 rfl (by decide)
theorem bf_J40_equals_10 : BOKt mt tJ40_equals 22 10 b_J40_equals_10 := by
  refine bnop1 ?_
  refine bret (pc' := 11) rfl dJ40_equals_10 rfl (Or.inr ⟨rfl, rfl⟩) (ihN rfl) rfl ?_
  exact trivial
theorem tf_J40_equals : ∀ x ∈ tb_J40_equals, BOK mt 22 x.1 x.2 := tb_c mt_J40_equals bf_J40_equals_0 (tb_c mt_J40_equals bf_J40_equals_9 (tb_c mt_J40_equals bf_J40_equals_10 (tb_n)))
theorem bf_J3_equals_0 : BOKt mt tJ3_equals 23 0 b_J3_equals_0 := by
  refine bplain (pc' := 1) rfl dJ3_equals_0 rfl (ihN rfl) rfl ?_
  refine bplain (pc' := 2) rfl dJ3_equals_1 rfl (ihN rfl) rfl ?_
  refine bplain (pc' := 3) rfl dJ3_equals_2 rfl (ihN rfl) rfl ?_
  refine bplain (pc' := 4) rfl dJ3_equals_3 rfl (ihN rfl) rfl ?_
  refine bjmp (tg := 34) (pc' := 7) rfl (by decide) (by decide) rfl dJ3_equals_4 rfl (ihN rfl) rfl ?_
  refine bplain (pc' := 8) rfl dJ3_equals_7 rfl (ihN rfl) rfl ?_
  refine bplain (pc' := 9) rfl dJ3_equals_8 rfl (ihN rfl) rfl ?_
  exact bnop0 rfl (by decide)
theorem bf_J3_equals_9 : BOKt mt tJ3_equals 23 9 b_J3_equals_9 := by
  refine bplain (pc' := 10) rfl dJ3_equals_9 rfl (ihN rfl) rfl ?_
  refine bplain (pc' := 11) rfl dJ3_equals_10 rfl (ihN rfl) rfl ?_
  refine bplain (pc' := 12) rfl dJ3_equals_11 rfl (ihN rfl) rfl ?_
  refine bjmp (tg := 32) (pc' := 15) rfl (by decide) (by decide) rfl dJ3_equals_12 rfl (ihN rfl) rfl ?_
  refine bplain (pc' := 16) rfl dJ3_equals_15 rfl (ihN rfl) rfl ?_
  refine bplain (pc' := 17) rfl dJ3_equals_16 rfl (ihN rfl) rfl ?_
  refine bplain (pc' := 18) rfl dJ3_equals_17 rfl (ihN rfl) rfl ?_
  refine bplain (pc' := 19) rfl dJ3_equals_18 rfl (ihN rfl) rfl ?_
  refine bplain (pc' := 20) rfl dJ3_equals_19 rfl (ihN rfl) rfl ?_
  refine bplain (pc' := 21) rfl dJ3_equals_20 rfl (ihN rfl) rfl ?_
  refine bjmp (tg := 26) (pc' := 24) rfl (by decide) (by decide) rfl dJ3_equals_21 rfl (ihN rfl) rfl ?_
  refine bplain (pc' := 25) rfl dJ3_equals_24 rfl (ihN rfl) rfl ?_
  refine bret (pc' := 26) rfl dJ3_equals_25 rfl (Or.inr ⟨rfl, rfl⟩) (ihN rfl) rfl ?_
  exact trivial
theorem bf_J3_equals_26 : BOKt mt tJ3_equals 23 26 b_J3_equals_26 := by
  refine bplain (pc' := 29) rfl dJ3_equals_26 rfl (ihN rfl) rfl ?_
  refine bjmp (tg := 9) (pc' := 32) rfl (by decide) (by decide) rfl dJ3_equals_29 rfl (ihN rfl) rfl ?_
  exact trivial
theorem bf_J3_equals_32 : BOKt mt tJ3_equals 23 32 b_J3_equals_32 := by
  refine bplain (pc' := 33) rfl dJ3_equals_32 rfl (ihN rfl) rfl ?_
  refine bret (pc' := 34) rfl dJ3_equals_33 rfl (Or.inr ⟨rfl, rfl⟩) (ihN rfl) rfl ?_
  exact trivial
theorem bf_J3_equals_34 : BOKt mt tJ3_equals 23 34 b_J3_equals_34 := by
  refine bplain (pc' := 35) rfl dJ3_equals_34 rfl (ihN rfl) rfl ?_
  refine bret (pc' := 36) rfl dJ3_equals_35 rfl (Or.inr ⟨rfl, rfl⟩) (ihN rfl) rfl ?_
  exact trivial
theorem tf_J3_equals : ∀ x ∈ tb_J3_equals, BOK mt 23 x.1 x.2 := tb_c mt_J3_equals bf_J3_equals_0 (tb_c mt_J3_equals bf_J3_equals_9 (tb_c mt_J3_equals bf_J3_equals_26 (tb_c mt_J3_equals bf_J3_equals_32 (tb_c mt_J3_equals bf_J3_equals_34 (tb_n)))))
theorem bf_J2_equals_0 : BOKt mt tJ2_equals 24 0 b_J2_equals_0 := by
  refine bplain (pc' := 1) rfl dJ2_equals_0 rfl (ihN rfl) rfl ?_
  refine bplain (pc' := 2) rfl dJ2_equals_1 rfl (ihN rfl) rfl ?_
  refine bjmp (tg := 7) (pc' := 5) rfl (by decide) (by decide) rfl dJ2_equals_2 rfl (ihN rfl) rfl ?_
  refine bplain (pc' := 6) rfl dJ2_equals_5 rfl (ihN rfl) rfl ?_
  refine bret (pc' := 7) rfl dJ2_equals_6 rfl (Or.inr ⟨rfl, rfl⟩) (ihN rfl) rfl ?_
  exact trivial
theorem bf_J2_equals_7 : BOKt mt tJ2_equals 24 7 b_J2_equals_7 := by
  refine bplain (pc' := 8) rfl dJ2_equals_7 rfl (ihN rfl) rfl ?_
  refine bobj (pc' := 11) rfl dJ2_equals_8 rfl (lkc (nm := "java/lang/String") q533 lg_70 lb_71) (ihN rfl) rfl ?_
  refine bjmp (tg := 54) (pc' := 14) rfl (by decide) (by decide) rfl dJ2_equals_11 rfl (ihN rfl) rfl ?_
  refine bplain (pc' := 15) rfl dJ2_equals_14 rfl (ihN rfl) rfl ?_
  refine bthr (pc' := 18) rfl dJ2_equals_15 rfl (lkc (nm := "java/lang/String") q533 lg_70 lb_71) (Or.inl rfl) (ihN rfl) rfl ?_
  refine bplain (pc' := 19) rfl dJ2_equals_18 rfl (ihN rfl) rfl ?_
  refine bobj (pc' := 22) rfl dJ2_equals_19 rfl (lkg0 (j := 0) lc_13 q316 rfl) (ihN rfl) rfl ?_
  refine bjmp (tg := 36) (pc' := 25) rfl (by decide) (by decide) rfl dJ2_equals_22 rfl (ihN rfl) rfl ?_
  refine bplain (pc' := 26) rfl dJ2_equals_25 rfl (ihN rfl) rfl ?_
  refine bthr (pc' := 29) rfl dJ2_equals_26 rfl (lkf0 q1618 lf_14) (trivial) (ihN rfl) rfl ?_
  refine bplain (pc' := 30) rfl dJ2_equals_29 rfl (ihN rfl) rfl ?_
  refine bthr (pc' := 33) rfl dJ2_equals_30 rfl (lkf0 q1618 lf_14) (trivial) (ihN rfl) rfl ?_
  refine bjmp (tg := 54) (pc' := 36) rfl (by decide) (by decide) rfl dJ2_equals_33 rfl (ihN rfl) rfl ?_
  exact bnop0 rfl (by decide)
theorem bf_J2_equals_36 : BOKt mt tJ2_equals 24 36 b_J2_equals_36 := by
  refine bnop1 ?_
  refine bplain (pc' := 37) rfl dJ2_equals_36 rfl (ihN rfl) rfl ?_
  refine bthr (pc' := 40) rfl dJ2_equals_37 rfl (lkf0 q1617 lf_31) (trivial) (ihN rfl) rfl ?_
  refine bplain (pc' := 41) rfl dJ2_equals_40 rfl (ihN rfl) rfl ?_
  refine bthr (pc' := 44) rfl dJ2_equals_41 rfl (lkf0 q1617 lf_31) (trivial) (ihN rfl) rfl ?_
  refine bcall (pc' := 47) rfl dJ2_equals_44 rfl (trivial) (lcs (l := q777) mt_J3_equals ⟨by decide, by decide⟩ mok_J3_equals rfl ln_72 (Or.inl q776)) (ihN rfl) rfl ?_
  refine bjmp (tg := 54) (pc' := 50) rfl (by decide) (by decide) rfl dJ2_equals_47 rfl (ihN rfl) rfl ?_
  refine bplain (pc' := 51) rfl dJ2_equals_50 rfl (ihN rfl) rfl ?_
  refine bjmp (tg := 55) (pc' := 54) rfl (by decide) (by decide) rfl dJ2_equals_51 rfl (ihN rfl) rfl ?_
  exact trivial
theorem bf_J2_equals_54 : BOKt mt tJ2_equals 24 54 b_J2_equals_54 := by
  refine bnop1 ?_
  refine bplain (pc' := 55) rfl dJ2_equals_54 rfl (ihN rfl) rfl ?_
  exact bnop0 rfl (by decide)
theorem bf_J2_equals_55 : BOKt mt tJ2_equals 24 55 b_J2_equals_55 := by
  refine bnop1 ?_
  refine bret (pc' := 56) rfl dJ2_equals_55 rfl (Or.inr ⟨rfl, rfl⟩) (ihN rfl) rfl ?_
  exact trivial
theorem tf_J2_equals : ∀ x ∈ tb_J2_equals, BOK mt 24 x.1 x.2 := tb_c mt_J2_equals bf_J2_equals_0 (tb_c mt_J2_equals bf_J2_equals_7 (tb_c mt_J2_equals bf_J2_equals_36 (tb_c mt_J2_equals bf_J2_equals_54 (tb_c mt_J2_equals bf_J2_equals_55 (tb_n)))))
theorem bf_X8_equals_0 : BOKt mt tX8_equals 25 0 b_X8_equals_0 := by
  refine bplain (pc' := 1) rfl dX8_equals_0 rfl (ihN rfl) rfl ?_
  refine bobj (pc' := 4) rfl dX8_equals_1 rfl (lkc (nm := "StrideTurns$Section") q761 lg_73 lb_74) (ihN rfl) rfl ?_
  refine bjmp (tg := 49) (pc' := 7) rfl (by decide) (by decide) rfl dX8_equals_4 rfl (ihN rfl) rfl ?_
  refine bplain (pc' := 8) rfl dX8_equals_7 rfl (ihN rfl) rfl ?_
  refine bthr (pc' := 11) rfl dX8_equals_8 rfl (lkc (nm := "StrideTurns$Section") q761 lg_73 lb_74) (Or.inl rfl) (ihN rfl) rfl ?_
  refine bplain (pc' := 12) rfl dX8_equals_11 rfl (ihN rfl) rfl ?_
  refine bplain (pc' := 13) rfl dX8_equals_12 rfl (ihN rfl) rfl ?_
  refine bthr (pc' := 16) rfl dX8_equals_13 rfl (lkf0 q1939 lf_39) (trivial) (ihN rfl) rfl ?_
  refine bplain (pc' := 17) rfl dX8_equals_16 rfl (ihN rfl) rfl ?_
  refine bthr (pc' := 20) rfl dX8_equals_17 rfl (lkf0 q1939 lf_39) (trivial) (ihN rfl) rfl ?_
  refine bjmp (tg := 49) (pc' := 23) rfl (by decide) (by decide) rfl dX8_equals_20 rfl (ihN rfl) rfl ?_
  refine bplain (pc' := 24) rfl dX8_equals_23 rfl (ihN rfl) rfl ?_
  refine bthr (pc' := 27) rfl dX8_equals_24 rfl (lkf0 q1941 lf_37) (trivial) (ihN rfl) rfl ?_
  refine bplain (pc' := 28) rfl dX8_equals_27 rfl (ihN rfl) rfl ?_
  refine bthr (pc' := 31) rfl dX8_equals_28 rfl (lkf0 q1941 lf_37) (trivial) (ihN rfl) rfl ?_
  refine bjmp (tg := 49) (pc' := 34) rfl (by decide) (by decide) rfl dX8_equals_31 rfl (ihN rfl) rfl ?_
  refine bplain (pc' := 35) rfl dX8_equals_34 rfl (ihN rfl) rfl ?_
  refine bthr (pc' := 38) rfl dX8_equals_35 rfl (lkf0 q1943 lf_38) (trivial) (ihN rfl) rfl ?_
  refine bplain (pc' := 39) rfl dX8_equals_38 rfl (ihN rfl) rfl ?_
  refine bthr (pc' := 42) rfl dX8_equals_39 rfl (lkf0 q1943 lf_38) (trivial) (ihN rfl) rfl ?_
  refine bjmp (tg := 49) (pc' := 45) rfl (by decide) (by decide) rfl dX8_equals_42 rfl (ihN rfl) rfl ?_
  refine bplain (pc' := 46) rfl dX8_equals_45 rfl (ihN rfl) rfl ?_
  refine bjmp (tg := 50) (pc' := 49) rfl (by decide) (by decide) rfl dX8_equals_46 rfl (ihN rfl) rfl ?_
  exact trivial
theorem bf_X8_equals_49 : BOKt mt tX8_equals 25 49 b_X8_equals_49 := by
  refine bnop1 ?_
  refine bplain (pc' := 50) rfl dX8_equals_49 rfl (ihN rfl) rfl ?_
  exact bnop0 rfl (by decide)
theorem bf_X8_equals_50 : BOKt mt tX8_equals 25 50 b_X8_equals_50 := by
  refine bnop1 ?_
  refine bret (pc' := 51) rfl dX8_equals_50 rfl (Or.inr ⟨rfl, rfl⟩) (ihN rfl) rfl ?_
  exact trivial
theorem tf_X8_equals : ∀ x ∈ tb_X8_equals, BOK mt 25 x.1 x.2 := tb_c mt_X8_equals bf_X8_equals_0 (tb_c mt_X8_equals bf_X8_equals_49 (tb_c mt_X8_equals bf_X8_equals_50 (tb_n)))
theorem bf_J1_treeifyBin_0 : BOKt mt tJ1_treeifyBin 26 0 b_J1_treeifyBin_0 := by
  refine bplain (pc' := 1) rfl dJ1_treeifyBin_0 rfl (ihN rfl) rfl ?_
  refine bjmp (tg := 13) (pc' := 4) rfl (by decide) (by decide) rfl dJ1_treeifyBin_1 rfl (ihN rfl) rfl ?_
  refine bplain (pc' := 5) rfl dJ1_treeifyBin_4 rfl (ihN rfl) rfl ?_
  refine bplain (pc' := 6) rfl dJ1_treeifyBin_5 rfl (ihN rfl) rfl ?_
  refine bplain (pc' := 7) rfl dJ1_treeifyBin_6 rfl (ihN rfl) rfl ?_
  refine bplain (pc' := 8) rfl dJ1_treeifyBin_7 rfl (ihN rfl) rfl ?_
  refine bplain (pc' := 10) rfl dJ1_treeifyBin_8 rfl (ihN rfl) rfl ?_
  refine bjmp (tg := 21) (pc' := 13) rfl (by decide) (by decide) rfl dJ1_treeifyBin_10 rfl (ihN rfl) rfl ?_
  exact bnop0 rfl (by decide)
theorem bf_J1_treeifyBin_13 : BOKt mt tJ1_treeifyBin 26 13 b_J1_treeifyBin_13 := by
  refine bnop1 ?_
  refine bplain (pc' := 14) rfl dJ1_treeifyBin_13 rfl (ihN rfl) rfl ?_
  refine bcall (pc' := 17) rfl dJ1_treeifyBin_14 rfl (trivial) (lcv (n := 0) rfl (pvc (lfv mt_J1_resize ⟨by decide, by decide⟩ mok_J1_resize ⟨by decide, by decide⟩ ⟨q386, ln_75, Or.inl ⟨q385, Or.inl q387⟩⟩) (pvc (lfv mt_J1_resize ⟨by decide, by decide⟩ mok_J1_resize ⟨by decide, by decide⟩ ⟨q386, ln_75, Or.inl ⟨q385, Or.inl q389⟩⟩) (trivial))) (Or.inl (by decide))) (ihN rfl) rfl ?_
  refine bplain (pc' := 18) rfl dJ1_treeifyBin_17 rfl (ihN rfl) rfl ?_
  refine bjmp (tg := 109) (pc' := 21) rfl (by decide) (by decide) rfl dJ1_treeifyBin_18 rfl (ihN rfl) rfl ?_
  exact trivial
theorem bf_J1_treeifyBin_21 : BOKt mt tJ1_treeifyBin 26 21 b_J1_treeifyBin_21 := by
  refine bplain (pc' := 22) rfl dJ1_treeifyBin_21 rfl (ihN rfl) rfl ?_
  refine bplain (pc' := 23) rfl dJ1_treeifyBin_22 rfl (ihN rfl) rfl ?_
  refine bplain (pc' := 24) rfl dJ1_treeifyBin_23 rfl (ihN rfl) rfl ?_
  refine bplain (pc' := 25) rfl dJ1_treeifyBin_24 rfl (ihN rfl) rfl ?_
  refine bplain (pc' := 26) rfl dJ1_treeifyBin_25 rfl (ihN rfl) rfl ?_
  refine bplain (pc' := 27) rfl dJ1_treeifyBin_26 rfl (ihN rfl) rfl ?_
  refine bplain (pc' := 28) rfl dJ1_treeifyBin_27 rfl (ihN rfl) rfl ?_
  refine bplain (pc' := 30) rfl dJ1_treeifyBin_28 rfl (ihN rfl) rfl ?_
  refine bplain (pc' := 31) rfl dJ1_treeifyBin_30 rfl (ihN rfl) rfl ?_
  refine bplain (pc' := 32) rfl dJ1_treeifyBin_31 rfl (ihN rfl) rfl ?_
  refine bplain (pc' := 34) rfl dJ1_treeifyBin_32 rfl (ihN rfl) rfl ?_
  refine bjmp (tg := 109) (pc' := 37) rfl (by decide) (by decide) rfl dJ1_treeifyBin_34 rfl (ihN rfl) rfl ?_
  refine bplain (pc' := 38) rfl dJ1_treeifyBin_37 rfl (ihN rfl) rfl ?_
  refine bplain (pc' := 40) rfl dJ1_treeifyBin_38 rfl (ihN rfl) rfl ?_
  refine bplain (pc' := 41) rfl dJ1_treeifyBin_40 rfl (ihN rfl) rfl ?_
  refine bplain (pc' := 43) rfl dJ1_treeifyBin_41 rfl (ihN rfl) rfl ?_
  exact bnop0 rfl (by decide)
theorem bf_J1_treeifyBin_43 : BOKt mt tJ1_treeifyBin 26 43 b_J1_treeifyBin_43 := by
  refine bnop1 ?_
  refine bplain (pc' := 44) rfl dJ1_treeifyBin_43 rfl (ihN rfl) rfl ?_
  refine bplain (pc' := 46) rfl dJ1_treeifyBin_44 rfl (ihN rfl) rfl ?_
  refine bplain (pc' := 47) rfl dJ1_treeifyBin_46 rfl (ihN rfl) rfl ?_
  refine bcall (pc' := 50) rfl dJ1_treeifyBin_47 rfl (trivial) (trivial) (ihN rfl) rfl ?_
  refine bplain (pc' := 52) rfl dJ1_treeifyBin_50 rfl (ihN rfl) rfl ?_
  refine bplain (pc' := 54) rfl dJ1_treeifyBin_52 rfl (ihN rfl) rfl ?_
  refine bjmp (tg := 64) (pc' := 57) rfl (by decide) (by decide) rfl dJ1_treeifyBin_54 rfl (ihN rfl) rfl ?_
  refine bplain (pc' := 59) rfl dJ1_treeifyBin_57 rfl (ihN rfl) rfl ?_
  refine bplain (pc' := 61) rfl dJ1_treeifyBin_59 rfl (ihN rfl) rfl ?_
  refine bjmp (tg := 78) (pc' := 64) rfl (by decide) (by decide) rfl dJ1_treeifyBin_61 rfl (ihN rfl) rfl ?_
  exact trivial
theorem bf_J1_treeifyBin_64 : BOKt mt tJ1_treeifyBin 26 64 b_J1_treeifyBin_64 := by
  refine bplain (pc' := 66) rfl dJ1_treeifyBin_64 rfl (ihN rfl) rfl ?_
  refine bplain (pc' := 68) rfl dJ1_treeifyBin_66 rfl (ihN rfl) rfl ?_
  refine bobj (pc' := 71) rfl dJ1_treeifyBin_68 rfl (⟨trivial, trivial⟩) (ihN rfl) rfl ?_
  refine bplain (pc' := 73) rfl dJ1_treeifyBin_71 rfl (ihN rfl) rfl ?_
  refine bplain (pc' := 75) rfl dJ1_treeifyBin_73 rfl (ihN rfl) rfl ?_
  refine bobj (pc' := 78) rfl dJ1_treeifyBin_75 rfl (⟨trivial, trivial⟩) (ihN rfl) rfl ?_
  exact bnop0 rfl (by decide)
theorem bf_J1_treeifyBin_78 : BOKt mt tJ1_treeifyBin 26 78 b_J1_treeifyBin_78 := by
  refine bnop1 ?_
  refine bplain (pc' := 80) rfl dJ1_treeifyBin_78 rfl (ihN rfl) rfl ?_
  refine bplain (pc' := 82) rfl dJ1_treeifyBin_80 rfl (ihN rfl) rfl ?_
  refine bplain (pc' := 84) rfl dJ1_treeifyBin_82 rfl (ihN rfl) rfl ?_
  refine bthr (pc' := 87) rfl dJ1_treeifyBin_84 rfl (lkf0 q448 lf_48) (trivial) (ihN rfl) rfl ?_
  refine bplain (pc' := 88) rfl dJ1_treeifyBin_87 rfl (ihN rfl) rfl ?_
  refine bplain (pc' := 90) rfl dJ1_treeifyBin_88 rfl (ihN rfl) rfl ?_
  refine bjmp (tg := 43) (pc' := 93) rfl (by decide) (by decide) rfl dJ1_treeifyBin_90 rfl (ihN rfl) rfl ?_
  refine bplain (pc' := 94) rfl dJ1_treeifyBin_93 rfl (ihN rfl) rfl ?_
  refine bplain (pc' := 96) rfl dJ1_treeifyBin_94 rfl (ihN rfl) rfl ?_
  refine bplain (pc' := 98) rfl dJ1_treeifyBin_96 rfl (ihN rfl) rfl ?_
  refine bplain (pc' := 99) rfl dJ1_treeifyBin_98 rfl (ihN rfl) rfl ?_
  refine bplain (pc' := 100) rfl dJ1_treeifyBin_99 rfl (ihN rfl) rfl ?_
  refine bjmp (tg := 109) (pc' := 103) rfl (by decide) (by decide) rfl dJ1_treeifyBin_100 rfl (ihN rfl) rfl ?_
  refine bplain (pc' := 105) rfl dJ1_treeifyBin_103 rfl (ihN rfl) rfl ?_
  refine bplain (pc' := 106) rfl dJ1_treeifyBin_105 rfl (ihN rfl) rfl ?_
  refine bcall (pc' := 109) rfl dJ1_treeifyBin_106 rfl (trivial) (trivial) (ihN rfl) rfl ?_
  exact bnop0 rfl (by decide)
theorem bf_J1_treeifyBin_109 : BOKt mt tJ1_treeifyBin 26 109 b_J1_treeifyBin_109 := by
  refine bnop1 ?_
  refine bret (pc' := 110) rfl dJ1_treeifyBin_109 rfl (rfl) (ihN rfl) rfl ?_
  exact trivial
theorem tf_J1_treeifyBin : ∀ x ∈ tb_J1_treeifyBin, BOK mt 26 x.1 x.2 := tb_c mt_J1_treeifyBin bf_J1_treeifyBin_0 (tb_c mt_J1_treeifyBin bf_J1_treeifyBin_13 (tb_c mt_J1_treeifyBin bf_J1_treeifyBin_21 (tb_c mt_J1_treeifyBin bf_J1_treeifyBin_43 (tb_c mt_J1_treeifyBin bf_J1_treeifyBin_64 (tb_c mt_J1_treeifyBin bf_J1_treeifyBin_78 (tb_c mt_J1_treeifyBin bf_J1_treeifyBin_109 (tb_n)))))))
theorem bf_J1_afterNodeAccess_0 : BOKt mt tJ1_afterNodeAccess 27 0 b_J1_afterNodeAccess_0 := by
  refine bret (pc' := 1) rfl dJ1_afterNodeAccess_0 rfl (rfl) (ihN rfl) rfl ?_
  exact trivial
theorem tf_J1_afterNodeAccess : ∀ x ∈ tb_J1_afterNodeAccess, BOK mt 27 x.1 x.2 := tb_c mt_J1_afterNodeAccess bf_J1_afterNodeAccess_0 (tb_n)
theorem bf_J34_afterNodeAccess_0 : BOKt mt tJ34_afterNodeAccess 28 0 b_J34_afterNodeAccess_0 := by
  refine bplain (pc' := 1) rfl dJ34_afterNodeAccess_0 rfl (ihN rfl) rfl ?_
  refine bthr (pc' := 4) rfl dJ34_afterNodeAccess_1 rfl (lkf0 q1993 lf_60) (trivial) (ihN rfl) rfl ?_
  refine bplain (pc' := 5) rfl dJ34_afterNodeAccess_4 rfl (ihN rfl) rfl ?_
  refine bjmp (tg := 22) (pc' := 8) rfl (by decide) (by decide) rfl dJ34_afterNodeAccess_5 rfl (ihN rfl) rfl ?_
  refine bplain (pc' := 9) rfl dJ34_afterNodeAccess_8 rfl (ihN rfl) rfl ?_
  refine bthr (pc' := 12) rfl dJ34_afterNodeAccess_9 rfl (lkf0 q1993 lf_60) (trivial) (ihN rfl) rfl ?_
  refine bjmp (tg := 141) (pc' := 15) rfl (by decide) (by decide) rfl dJ34_afterNodeAccess_12 rfl (ihN rfl) rfl ?_
  refine bplain (pc' := 16) rfl dJ34_afterNodeAccess_15 rfl (ihN rfl) rfl ?_
  refine bthr (pc' := 19) rfl dJ34_afterNodeAccess_16 rfl (lkf0 q1992 lf_76) (trivial) (ihN rfl) rfl ?_
  refine bjmp (tg := 141) (pc' := 22) rfl (by decide) (by decide) rfl dJ34_afterNodeAccess_19 rfl (ihN rfl) rfl ?_
  exact bnop0 rfl (by decide)
theorem bf_J34_afterNodeAccess_22 : BOKt mt tJ34_afterNodeAccess 28 22 b_J34_afterNodeAccess_22 := by
  refine bnop1 ?_
  refine bplain (pc' := 23) rfl dJ34_afterNodeAccess_22 rfl (ihN rfl) rfl ?_
  refine bthr (pc' := 26) rfl dJ34_afterNodeAccess_23 rfl (lkf0 q1991 lf_63) (trivial) (ihN rfl) rfl ?_
  refine bplain (pc' := 27) rfl dJ34_afterNodeAccess_26 rfl (ihN rfl) rfl ?_
  refine bplain (pc' := 28) rfl dJ34_afterNodeAccess_27 rfl (ihN rfl) rfl ?_
  refine bplain (pc' := 29) rfl dJ34_afterNodeAccess_28 rfl (ihN rfl) rfl ?_
  refine bjmp (tg := 141) (pc' := 32) rfl (by decide) (by decide) rfl dJ34_afterNodeAccess_29 rfl (ihN rfl) rfl ?_
  refine bplain (pc' := 33) rfl dJ34_afterNodeAccess_32 rfl (ihN rfl) rfl ?_
  refine bthr (pc' := 36) rfl dJ34_afterNodeAccess_33 rfl (lkc (nm := "java/util/LinkedHashMap$Entry") q413 lg_77 lb_78) (Or.inl rfl) (ihN rfl) rfl ?_
  refine bplain (pc' := 38) rfl dJ34_afterNodeAccess_36 rfl (ihN rfl) rfl ?_
  refine bplain (pc' := 40) rfl dJ34_afterNodeAccess_38 rfl (ihN rfl) rfl ?_
  refine bthr (pc' := 43) rfl dJ34_afterNodeAccess_40 rfl (lkf0 q422 lf_67) (trivial) (ihN rfl) rfl ?_
  refine bplain (pc' := 45) rfl dJ34_afterNodeAccess_43 rfl (ihN rfl) rfl ?_
  refine bplain (pc' := 47) rfl dJ34_afterNodeAccess_45 rfl (ihN rfl) rfl ?_
  refine bthr (pc' := 50) rfl dJ34_afterNodeAccess_47 rfl (lkf0 q424 lf_65) (trivial) (ihN rfl) rfl ?_
  refine bplain (pc' := 52) rfl dJ34_afterNodeAccess_50 rfl (ihN rfl) rfl ?_
  refine bplain (pc' := 54) rfl dJ34_afterNodeAccess_52 rfl (ihN rfl) rfl ?_
  refine bplain (pc' := 55) rfl dJ34_afterNodeAccess_54 rfl (ihN rfl) rfl ?_
  refine bobj (pc' := 58) rfl dJ34_afterNodeAccess_55 rfl (⟨lkf0 q424 lf_65, lkp0 lp_66⟩) (ihN rfl) rfl ?_
  refine bplain (pc' := 60) rfl dJ34_afterNodeAccess_58 rfl (ihN rfl) rfl ?_
  refine bjmp (tg := 72) (pc' := 63) rfl (by decide) (by decide) rfl dJ34_afterNodeAccess_60 rfl (ihN rfl) rfl ?_
  refine bplain (pc' := 64) rfl dJ34_afterNodeAccess_63 rfl (ihN rfl) rfl ?_
  refine bplain (pc' := 66) rfl dJ34_afterNodeAccess_64 rfl (ihN rfl) rfl ?_
  refine bobj (pc' := 69) rfl dJ34_afterNodeAccess_66 rfl (⟨lkf0 q1988 lf_61, lkp0 lp_62⟩) (ihN rfl) rfl ?_
  refine bjmp (tg := 79) (pc' := 72) rfl (by decide) (by decide) rfl dJ34_afterNodeAccess_69 rfl (ihN rfl) rfl ?_
  exact trivial
theorem bf_J34_afterNodeAccess_72 : BOKt mt tJ34_afterNodeAccess 28 72 b_J34_afterNodeAccess_72 := by
  refine bplain (pc' := 74) rfl dJ34_afterNodeAccess_72 rfl (ihN rfl) rfl ?_
  refine bplain (pc' := 76) rfl dJ34_afterNodeAccess_74 rfl (ihN rfl) rfl ?_
  refine bobj (pc' := 79) rfl dJ34_afterNodeAccess_76 rfl (⟨lkf0 q424 lf_65, lkp0 lp_66⟩) (ihN rfl) rfl ?_
  exact bnop0 rfl (by decide)
theorem bf_J34_afterNodeAccess_79 : BOKt mt tJ34_afterNodeAccess 28 79 b_J34_afterNodeAccess_79 := by
  refine bnop1 ?_
  refine bplain (pc' := 81) rfl dJ34_afterNodeAccess_79 rfl (ihN rfl) rfl ?_
  refine bjmp (tg := 94) (pc' := 84) rfl (by decide) (by decide) rfl dJ34_afterNodeAccess_81 rfl (ihN rfl) rfl ?_
  refine bplain (pc' := 86) rfl dJ34_afterNodeAccess_84 rfl (ihN rfl) rfl ?_
  refine bplain (pc' := 88) rfl dJ34_afterNodeAccess_86 rfl (ihN rfl) rfl ?_
  refine bobj (pc' := 91) rfl dJ34_afterNodeAccess_88 rfl (⟨lkf0 q422 lf_67, lkp0 lp_68⟩) (ihN rfl) rfl ?_
  refine bjmp (tg := 97) (pc' := 94) rfl (by decide) (by decide) rfl dJ34_afterNodeAccess_91 rfl (ihN rfl) rfl ?_
  exact trivial
theorem bf_J34_afterNodeAccess_94 : BOKt mt tJ34_afterNodeAccess 28 94 b_J34_afterNodeAccess_94 := by
  refine bplain (pc' := 96) rfl dJ34_afterNodeAccess_94 rfl (ihN rfl) rfl ?_
  refine bplain (pc' := 97) rfl dJ34_afterNodeAccess_96 rfl (ihN rfl) rfl ?_
  exact bnop0 rfl (by decide)
theorem bf_J34_afterNodeAccess_97 : BOKt mt tJ34_afterNodeAccess 28 97 b_J34_afterNodeAccess_97 := by
  refine bnop1 ?_
  refine bplain (pc' := 98) rfl dJ34_afterNodeAccess_97 rfl (ihN rfl) rfl ?_
  refine bjmp (tg := 110) (pc' := 101) rfl (by decide) (by decide) rfl dJ34_afterNodeAccess_98 rfl (ihN rfl) rfl ?_
  refine bplain (pc' := 102) rfl dJ34_afterNodeAccess_101 rfl (ihN rfl) rfl ?_
  refine bplain (pc' := 104) rfl dJ34_afterNodeAccess_102 rfl (ihN rfl) rfl ?_
  refine bobj (pc' := 107) rfl dJ34_afterNodeAccess_104 rfl (⟨lkf0 q1988 lf_61, lkp0 lp_62⟩) (ihN rfl) rfl ?_
  refine bjmp (tg := 122) (pc' := 110) rfl (by decide) (by decide) rfl dJ34_afterNodeAccess_107 rfl (ihN rfl) rfl ?_
  exact trivial
theorem bf_J34_afterNodeAccess_110 : BOKt mt tJ34_afterNodeAccess 28 110 b_J34_afterNodeAccess_110 := by
  refine bplain (pc' := 112) rfl dJ34_afterNodeAccess_110 rfl (ihN rfl) rfl ?_
  refine bplain (pc' := 113) rfl dJ34_afterNodeAccess_112 rfl (ihN rfl) rfl ?_
  refine bobj (pc' := 116) rfl dJ34_afterNodeAccess_113 rfl (⟨lkf0 q422 lf_67, lkp0 lp_68⟩) (ihN rfl) rfl ?_
  refine bplain (pc' := 117) rfl dJ34_afterNodeAccess_116 rfl (ihN rfl) rfl ?_
  refine bplain (pc' := 119) rfl dJ34_afterNodeAccess_117 rfl (ihN rfl) rfl ?_
  refine bobj (pc' := 122) rfl dJ34_afterNodeAccess_119 rfl (⟨lkf0 q424 lf_65, lkp0 lp_66⟩) (ihN rfl) rfl ?_
  exact bnop0 rfl (by decide)
theorem bf_J34_afterNodeAccess_122 : BOKt mt tJ34_afterNodeAccess 28 122 b_J34_afterNodeAccess_122 := by
  refine bnop1 ?_
  refine bplain (pc' := 123) rfl dJ34_afterNodeAccess_122 rfl (ihN rfl) rfl ?_
  refine bplain (pc' := 125) rfl dJ34_afterNodeAccess_123 rfl (ihN rfl) rfl ?_
  refine bobj (pc' := 128) rfl dJ34_afterNodeAccess_125 rfl (⟨lkf0 q1991 lf_63, lkp0 lp_64⟩) (ihN rfl) rfl ?_
  refine bplain (pc' := 129) rfl dJ34_afterNodeAccess_128 rfl (ihN rfl) rfl ?_
  refine bplain (pc' := 130) rfl dJ34_afterNodeAccess_129 rfl (ihN rfl) rfl ?_
  refine bthr (pc' := 133) rfl dJ34_afterNodeAccess_130 rfl (lkf0 q212 lf_79) (trivial) (ihN rfl) rfl ?_
  refine bplain (pc' := 134) rfl dJ34_afterNodeAccess_133 rfl (ihN rfl) rfl ?_
  refine bplain (pc' := 135) rfl dJ34_afterNodeAccess_134 rfl (ihN rfl) rfl ?_
  refine bobj (pc' := 138) rfl dJ34_afterNodeAccess_135 rfl (⟨lkf0 q212 lf_79, lkp0 lp_80⟩) (ihN rfl) rfl ?_
  refine bjmp (tg := 265) (pc' := 141) rfl (by decide) (by decide) rfl dJ34_afterNodeAccess_138 rfl (ihN rfl) rfl ?_
  exact trivial
theorem bf_J34_afterNodeAccess_141 : BOKt mt tJ34_afterNodeAccess 28 141 b_J34_afterNodeAccess_141 := by
  refine bnop1 ?_
  refine bplain (pc' := 142) rfl dJ34_afterNodeAccess_141 rfl (ihN rfl) rfl ?_
  refine bthr (pc' := 145) rfl dJ34_afterNodeAccess_142 rfl (lkf0 q1993 lf_60) (trivial) (ihN rfl) rfl ?_
  refine bplain (pc' := 146) rfl dJ34_afterNodeAccess_145 rfl (ihN rfl) rfl ?_
  refine bjmp (tg := 265) (pc' := 149) rfl (by decide) (by decide) rfl dJ34_afterNodeAccess_146 rfl (ihN rfl) rfl ?_
  refine bplain (pc' := 150) rfl dJ34_afterNodeAccess_149 rfl (ihN rfl) rfl ?_
  refine bthr (pc' := 153) rfl dJ34_afterNodeAccess_150 rfl (lkf0 q1988 lf_61) (trivial) (ihN rfl) rfl ?_
  refine bplain (pc' := 154) rfl dJ34_afterNodeAccess_153 rfl (ihN rfl) rfl ?_
  refine bplain (pc' := 155) rfl dJ34_afterNodeAccess_154 rfl (ihN rfl) rfl ?_
  refine bplain (pc' := 156) rfl dJ34_afterNodeAccess_155 rfl (ihN rfl) rfl ?_
  refine bjmp (tg := 265) (pc' := 159) rfl (by decide) (by decide) rfl dJ34_afterNodeAccess_156 rfl (ihN rfl) rfl ?_
  refine bplain (pc' := 160) rfl dJ34_afterNodeAccess_159 rfl (ihN rfl) rfl ?_
  refine bthr (pc' := 163) rfl dJ34_afterNodeAccess_160 rfl (lkc (nm := "java/util/LinkedHashMap$Entry") q413 lg_77 lb_78) (Or.inl rfl) (ihN rfl) rfl ?_
  refine bplain (pc' := 165) rfl dJ34_afterNodeAccess_163 rfl (ihN rfl) rfl ?_
  refine bplain (pc' := 167) rfl dJ34_afterNodeAccess_165 rfl (ihN rfl) rfl ?_
  refine bthr (pc' := 170) rfl dJ34_afterNodeAccess_167 rfl (lkf0 q422 lf_67) (trivial) (ihN rfl) rfl ?_
  refine bplain (pc' := 172) rfl dJ34_afterNodeAccess_170 rfl (ihN rfl) rfl ?_
  refine bplain (pc' := 174) rfl dJ34_afterNodeAccess_172 rfl (ihN rfl) rfl ?_
  refine bthr (pc' := 177) rfl dJ34_afterNodeAccess_174 rfl (lkf0 q424 lf_65) (trivial) (ihN rfl) rfl ?_
  refine bplain (pc' := 179) rfl dJ34_afterNodeAccess_177 rfl (ihN rfl) rfl ?_
  refine bplain (pc' := 181) rfl dJ34_afterNodeAccess_179 rfl (ihN rfl) rfl ?_
  refine bplain (pc' := 182) rfl dJ34_afterNodeAccess_181 rfl (ihN rfl) rfl ?_
  refine bobj (pc' := 185) rfl dJ34_afterNodeAccess_182 rfl (⟨lkf0 q422 lf_67, lkp0 lp_68⟩) (ihN rfl) rfl ?_
  refine bplain (pc' := 187) rfl dJ34_afterNodeAccess_185 rfl (ihN rfl) rfl ?_
  refine bjmp (tg := 199) (pc' := 190) rfl (by decide) (by decide) rfl dJ34_afterNodeAccess_187 rfl (ihN rfl) rfl ?_
  refine bplain (pc' := 191) rfl dJ34_afterNodeAccess_190 rfl (ihN rfl) rfl ?_
  refine bplain (pc' := 193) rfl dJ34_afterNodeAccess_191 rfl (ihN rfl) rfl ?_
  refine bobj (pc' := 196) rfl dJ34_afterNodeAccess_193 rfl (⟨lkf0 q1991 lf_63, lkp0 lp_64⟩) (ihN rfl) rfl ?_
  refine bjmp (tg := 206) (pc' := 199) rfl (by decide) (by decide) rfl dJ34_afterNodeAccess_196 rfl (ihN rfl) rfl ?_
  exact trivial
theorem bf_J34_afterNodeAccess_199 : BOKt mt tJ34_afterNodeAccess 28 199 b_J34_afterNodeAccess_199 := by
  refine bplain (pc' := 201) rfl dJ34_afterNodeAccess_199 rfl (ihN rfl) rfl ?_
  refine bplain (pc' := 203) rfl dJ34_afterNodeAccess_201 rfl (ihN rfl) rfl ?_
  refine bobj (pc' := 206) rfl dJ34_afterNodeAccess_203 rfl (⟨lkf0 q422 lf_67, lkp0 lp_68⟩) (ihN rfl) rfl ?_
  exact bnop0 rfl (by decide)
theorem bf_J34_afterNodeAccess_206 : BOKt mt tJ34_afterNodeAccess 28 206 b_J34_afterNodeAccess_206 := by
  refine bnop1 ?_
  refine bplain (pc' := 208) rfl dJ34_afterNodeAccess_206 rfl (ihN rfl) rfl ?_
  refine bjmp (tg := 221) (pc' := 211) rfl (by decide) (by decide) rfl dJ34_afterNodeAccess_208 rfl (ihN rfl) rfl ?_
  refine bplain (pc' := 213) rfl dJ34_afterNodeAccess_211 rfl (ihN rfl) rfl ?_
  refine bplain (pc' := 215) rfl dJ34_afterNodeAccess_213 rfl (ihN rfl) rfl ?_
  refine bobj (pc' := 218) rfl dJ34_afterNodeAccess_215 rfl (⟨lkf0 q424 lf_65, lkp0 lp_66⟩) (ihN rfl) rfl ?_
  refine bjmp (tg := 224) (pc' := 221) rfl (by decide) (by decide) rfl dJ34_afterNodeAccess_218 rfl (ihN rfl) rfl ?_
  exact trivial
theorem bf_J34_afterNodeAccess_221 : BOKt mt tJ34_afterNodeAccess 28 221 b_J34_afterNodeAccess_221 := by
  refine bplain (pc' := 223) rfl dJ34_afterNodeAccess_221 rfl (ihN rfl) rfl ?_
  refine bplain (pc' := 224) rfl dJ34_afterNodeAccess_223 rfl (ihN rfl) rfl ?_
  exact bnop0 rfl (by decide)
theorem bf_J34_afterNodeAccess_224 : BOKt mt tJ34_afterNodeAccess 28 224 b_J34_afterNodeAccess_224 := by
  refine bnop1 ?_
  refine bplain (pc' := 225) rfl dJ34_afterNodeAccess_224 rfl (ihN rfl) rfl ?_
  refine bjmp (tg := 237) (pc' := 228) rfl (by decide) (by decide) rfl dJ34_afterNodeAccess_225 rfl (ihN rfl) rfl ?_
  refine bplain (pc' := 229) rfl dJ34_afterNodeAccess_228 rfl (ihN rfl) rfl ?_
  refine bplain (pc' := 231) rfl dJ34_afterNodeAccess_229 rfl (ihN rfl) rfl ?_
  refine bobj (pc' := 234) rfl dJ34_afterNodeAccess_231 rfl (⟨lkf0 q1991 lf_63, lkp0 lp_64⟩) (ihN rfl) rfl ?_
  refine bjmp (tg := 249) (pc' := 237) rfl (by decide) (by decide) rfl dJ34_afterNodeAccess_234 rfl (ihN rfl) rfl ?_
  exact trivial
theorem bf_J34_afterNodeAccess_237 : BOKt mt tJ34_afterNodeAccess 28 237 b_J34_afterNodeAccess_237 := by
  refine bplain (pc' := 239) rfl dJ34_afterNodeAccess_237 rfl (ihN rfl) rfl ?_
  refine bplain (pc' := 240) rfl dJ34_afterNodeAccess_239 rfl (ihN rfl) rfl ?_
  refine bobj (pc' := 243) rfl dJ34_afterNodeAccess_240 rfl (⟨lkf0 q424 lf_65, lkp0 lp_66⟩) (ihN rfl) rfl ?_
  refine bplain (pc' := 244) rfl dJ34_afterNodeAccess_243 rfl (ihN rfl) rfl ?_
  refine bplain (pc' := 246) rfl dJ34_afterNodeAccess_244 rfl (ihN rfl) rfl ?_
  refine bobj (pc' := 249) rfl dJ34_afterNodeAccess_246 rfl (⟨lkf0 q422 lf_67, lkp0 lp_68⟩) (ihN rfl) rfl ?_
  exact bnop0 rfl (by decide)
theorem bf_J34_afterNodeAccess_249 : BOKt mt tJ34_afterNodeAccess 28 249 b_J34_afterNodeAccess_249 := by
  refine bnop1 ?_
  refine bplain (pc' := 250) rfl dJ34_afterNodeAccess_249 rfl (ihN rfl) rfl ?_
  refine bplain (pc' := 252) rfl dJ34_afterNodeAccess_250 rfl (ihN rfl) rfl ?_
  refine bobj (pc' := 255) rfl dJ34_afterNodeAccess_252 rfl (⟨lkf0 q1988 lf_61, lkp0 lp_62⟩) (ihN rfl) rfl ?_
  refine bplain (pc' := 256) rfl dJ34_afterNodeAccess_255 rfl (ihN rfl) rfl ?_
  refine bplain (pc' := 257) rfl dJ34_afterNodeAccess_256 rfl (ihN rfl) rfl ?_
  refine bthr (pc' := 260) rfl dJ34_afterNodeAccess_257 rfl (lkf0 q212 lf_79) (trivial) (ihN rfl) rfl ?_
  refine bplain (pc' := 261) rfl dJ34_afterNodeAccess_260 rfl (ihN rfl) rfl ?_
  refine bplain (pc' := 262) rfl dJ34_afterNodeAccess_261 rfl (ihN rfl) rfl ?_
  refine bobj (pc' := 265) rfl dJ34_afterNodeAccess_262 rfl (⟨lkf0 q212 lf_79, lkp0 lp_80⟩) (ihN rfl) rfl ?_
  exact bnop0 rfl (by decide)
theorem bf_J34_afterNodeAccess_265 : BOKt mt tJ34_afterNodeAccess 28 265 b_J34_afterNodeAccess_265 := by
  refine bnop1 ?_
  refine bret (pc' := 266) rfl dJ34_afterNodeAccess_265 rfl (rfl) (ihN rfl) rfl ?_
  exact trivial
theorem tf_J34_afterNodeAccess : ∀ x ∈ tb_J34_afterNodeAccess, BOK mt 28 x.1 x.2 := tb_c mt_J34_afterNodeAccess bf_J34_afterNodeAccess_0 (tb_c mt_J34_afterNodeAccess bf_J34_afterNodeAccess_22 (tb_c mt_J34_afterNodeAccess bf_J34_afterNodeAccess_72 (tb_c mt_J34_afterNodeAccess bf_J34_afterNodeAccess_79 (tb_c mt_J34_afterNodeAccess bf_J34_afterNodeAccess_94 (tb_c mt_J34_afterNodeAccess bf_J34_afterNodeAccess_97 (tb_c mt_J34_afterNodeAccess bf_J34_afterNodeAccess_110 (tb_c mt_J34_afterNodeAccess bf_J34_afterNodeAccess_122 (tb_c mt_J34_afterNodeAccess bf_J34_afterNodeAccess_141 (tb_c mt_J34_afterNodeAccess bf_J34_afterNodeAccess_199 (tb_c mt_J34_afterNodeAccess bf_J34_afterNodeAccess_206 (tb_c mt_J34_afterNodeAccess bf_J34_afterNodeAccess_221 (tb_c mt_J34_afterNodeAccess bf_J34_afterNodeAccess_224 (tb_c mt_J34_afterNodeAccess bf_J34_afterNodeAccess_237 (tb_c mt_J34_afterNodeAccess bf_J34_afterNodeAccess_249 (tb_c mt_J34_afterNodeAccess bf_J34_afterNodeAccess_265 (tb_n))))))))))))))))
theorem bf_J1_afterNodeInsertion_0 : BOKt mt tJ1_afterNodeInsertion 29 0 b_J1_afterNodeInsertion_0 := by
  refine bret (pc' := 1) rfl dJ1_afterNodeInsertion_0 rfl (rfl) (ihN rfl) rfl ?_
  exact trivial
theorem tf_J1_afterNodeInsertion : ∀ x ∈ tb_J1_afterNodeInsertion, BOK mt 29 x.1 x.2 := tb_c mt_J1_afterNodeInsertion bf_J1_afterNodeInsertion_0 (tb_n)
theorem bf_J34_removeEldestEntry_0 : BOKt mt tJ34_removeEldestEntry 30 0 b_J34_removeEldestEntry_0 := by
  refine bplain (pc' := 1) rfl dJ34_removeEldestEntry_0 rfl (ihN rfl) rfl ?_
  refine bret (pc' := 2) rfl dJ34_removeEldestEntry_1 rfl (Or.inr ⟨rfl, rfl⟩) (ihN rfl) rfl ?_
  exact trivial
theorem tf_J34_removeEldestEntry : ∀ x ∈ tb_J34_removeEldestEntry, BOK mt 30 x.1 x.2 := tb_c mt_J34_removeEldestEntry bf_J34_removeEldestEntry_0 (tb_n)
theorem bf_J34_afterNodeInsertion_0 : BOKt mt tJ34_afterNodeInsertion 31 0 b_J34_afterNodeInsertion_0 := by
  refine bplain (pc' := 1) rfl dJ34_afterNodeInsertion_0 rfl (ihN rfl) rfl ?_
  refine bjmp (tg := 39) (pc' := 4) rfl (by decide) (by decide) rfl dJ34_afterNodeInsertion_1 rfl (ihN rfl) rfl ?_
  refine bplain (pc' := 5) rfl dJ34_afterNodeInsertion_4 rfl (ihN rfl) rfl ?_
  refine bthr (pc' := 8) rfl dJ34_afterNodeInsertion_5 rfl (lkf0 q1988 lf_61) (trivial) (ihN rfl) rfl ?_
  refine bplain (pc' := 9) rfl dJ34_afterNodeInsertion_8 rfl (ihN rfl) rfl ?_
  refine bplain (pc' := 10) rfl dJ34_afterNodeInsertion_9 rfl (ihN rfl) rfl ?_
  refine bjmp (tg := 39) (pc' := 13) rfl (by decide) (by decide) rfl dJ34_afterNodeInsertion_10 rfl (ihN rfl) rfl ?_
  refine bplain (pc' := 14) rfl dJ34_afterNodeInsertion_13 rfl (ihN rfl) rfl ?_
  refine bplain (pc' := 15) rfl dJ34_afterNodeInsertion_14 rfl (ihN rfl) rfl ?_
  refine bcall (pc' := 18) rfl dJ34_afterNodeInsertion_15 rfl (trivial) (lcv (n := 1) rfl (pvc (lfv mt_J34_removeEldestEntry ⟨by decide, by decide⟩ mok_J34_removeEldestEntry ⟨by decide, by decide⟩ ⟨q865, ln_81, Or.inl ⟨q864, Or.inl q866⟩⟩) (trivial)) (Or.inl (by decide))) (ihN rfl) rfl ?_
  refine bjmp (tg := 39) (pc' := 21) rfl (by decide) (by decide) rfl dJ34_afterNodeInsertion_18 rfl (ihN rfl) rfl ?_
  refine bplain (pc' := 22) rfl dJ34_afterNodeInsertion_21 rfl (ihN rfl) rfl ?_
  refine bthr (pc' := 25) rfl dJ34_afterNodeInsertion_22 rfl (lkf0 q435 lf_82) (trivial) (ihN rfl) rfl ?_
  refine bplain (pc' := 26) rfl dJ34_afterNodeInsertion_25 rfl (ihN rfl) rfl ?_
  refine bplain (pc' := 27) rfl dJ34_afterNodeInsertion_26 rfl (ihN rfl) rfl ?_
  refine bplain (pc' := 28) rfl dJ34_afterNodeInsertion_27 rfl (ihN rfl) rfl ?_
  refine bcall (pc' := 31) rfl dJ34_afterNodeInsertion_28 rfl (trivial) (trivial) (ihN rfl) rfl ?_
  refine bplain (pc' := 32) rfl dJ34_afterNodeInsertion_31 rfl (ihN rfl) rfl ?_
  refine bplain (pc' := 33) rfl dJ34_afterNodeInsertion_32 rfl (ihN rfl) rfl ?_
  refine bplain (pc' := 34) rfl dJ34_afterNodeInsertion_33 rfl (ihN rfl) rfl ?_
  refine bplain (pc' := 35) rfl dJ34_afterNodeInsertion_34 rfl (ihN rfl) rfl ?_
  refine bcall (pc' := 38) rfl dJ34_afterNodeInsertion_35 rfl (trivial) (trivial) (ihN rfl) rfl ?_
  refine bplain (pc' := 39) rfl dJ34_afterNodeInsertion_38 rfl (ihN rfl) rfl ?_
  exact bnop0 rfl (by decide)
theorem bf_J34_afterNodeInsertion_39 : BOKt mt tJ34_afterNodeInsertion 31 39 b_J34_afterNodeInsertion_39 := by
  refine bnop1 ?_
  refine bret (pc' := 40) rfl dJ34_afterNodeInsertion_39 rfl (rfl) (ihN rfl) rfl ?_
  exact trivial
theorem tf_J34_afterNodeInsertion : ∀ x ∈ tb_J34_afterNodeInsertion, BOK mt 31 x.1 x.2 := tb_c mt_J34_afterNodeInsertion bf_J34_afterNodeInsertion_0 (tb_c mt_J34_afterNodeInsertion bf_J34_afterNodeInsertion_39 (tb_n))
theorem bf_J1_putVal_0 : BOKt mt tJ1_putVal 32 0 b_J1_putVal_0 := by
  refine bplain (pc' := 1) rfl dJ1_putVal_0 rfl (ihN rfl) rfl ?_
  refine bthr (pc' := 4) rfl dJ1_putVal_1 rfl (lkf0 q208 lf_42) (trivial) (ihN rfl) rfl ?_
  refine bplain (pc' := 5) rfl dJ1_putVal_4 rfl (ihN rfl) rfl ?_
  refine bplain (pc' := 7) rfl dJ1_putVal_5 rfl (ihN rfl) rfl ?_
  refine bjmp (tg := 19) (pc' := 10) rfl (by decide) (by decide) rfl dJ1_putVal_7 rfl (ihN rfl) rfl ?_
  refine bplain (pc' := 12) rfl dJ1_putVal_10 rfl (ihN rfl) rfl ?_
  refine bplain (pc' := 13) rfl dJ1_putVal_12 rfl (ihN rfl) rfl ?_
  refine bplain (pc' := 14) rfl dJ1_putVal_13 rfl (ihN rfl) rfl ?_
  refine bplain (pc' := 16) rfl dJ1_putVal_14 rfl (ihN rfl) rfl ?_
  refine bjmp (tg := 29) (pc' := 19) rfl (by decide) (by decide) rfl dJ1_putVal_16 rfl (ihN rfl) rfl ?_
  exact bnop0 rfl (by decide)
theorem bf_J1_putVal_19 : BOKt mt tJ1_putVal 32 19 b_J1_putVal_19 := by
  refine bnop1 ?_
  refine bplain (pc' := 20) rfl dJ1_putVal_19 rfl (ihN rfl) rfl ?_
  refine bcall (pc' := 23) rfl dJ1_putVal_20 rfl (trivial) (lcv (n := 0) rfl (pvc (lfv mt_J1_resize ⟨by decide, by decide⟩ mok_J1_resize ⟨by decide, by decide⟩ ⟨q386, ln_75, Or.inl ⟨q385, Or.inl q387⟩⟩) (pvc (lfv mt_J1_resize ⟨by decide, by decide⟩ mok_J1_resize ⟨by decide, by decide⟩ ⟨q386, ln_75, Or.inl ⟨q385, Or.inl q389⟩⟩) (trivial))) (Or.inl (by decide))) (ihN rfl) rfl ?_
  refine bplain (pc' := 24) rfl dJ1_putVal_23 rfl (ihN rfl) rfl ?_
  refine bplain (pc' := 26) rfl dJ1_putVal_24 rfl (ihN rfl) rfl ?_
  refine bplain (pc' := 27) rfl dJ1_putVal_26 rfl (ihN rfl) rfl ?_
  refine bplain (pc' := 29) rfl dJ1_putVal_27 rfl (ihN rfl) rfl ?_
  exact bnop0 rfl (by decide)
theorem bf_J1_putVal_29 : BOKt mt tJ1_putVal 32 29 b_J1_putVal_29 := by
  refine bnop1 ?_
  refine bplain (pc' := 31) rfl dJ1_putVal_29 rfl (ihN rfl) rfl ?_
  refine bplain (pc' := 33) rfl dJ1_putVal_31 rfl (ihN rfl) rfl ?_
  refine bplain (pc' := 34) rfl dJ1_putVal_33 rfl (ihN rfl) rfl ?_
  refine bplain (pc' := 35) rfl dJ1_putVal_34 rfl (ihN rfl) rfl ?_
  refine bplain (pc' := 36) rfl dJ1_putVal_35 rfl (ihN rfl) rfl ?_
  refine bplain (pc' := 37) rfl dJ1_putVal_36 rfl (ihN rfl) rfl ?_
  refine bplain (pc' := 38) rfl dJ1_putVal_37 rfl (ihN rfl) rfl ?_
  refine bplain (pc' := 40) rfl dJ1_putVal_38 rfl (ihN rfl) rfl ?_
  refine bplain (pc' := 41) rfl dJ1_putVal_40 rfl (ihN rfl) rfl ?_
  refine bplain (pc' := 42) rfl dJ1_putVal_41 rfl (ihN rfl) rfl ?_
  refine bplain (pc' := 44) rfl dJ1_putVal_42 rfl (ihN rfl) rfl ?_
  refine bjmp (tg := 63) (pc' := 47) rfl (by decide) (by decide) rfl dJ1_putVal_44 rfl (ihN rfl) rfl ?_
  refine bplain (pc' := 49) rfl dJ1_putVal_47 rfl (ihN rfl) rfl ?_
  refine bplain (pc' := 51) rfl dJ1_putVal_49 rfl (ihN rfl) rfl ?_
  refine bplain (pc' := 52) rfl dJ1_putVal_51 rfl (ihN rfl) rfl ?_
  refine bplain (pc' := 53) rfl dJ1_putVal_52 rfl (ihN rfl) rfl ?_
  refine bplain (pc' := 54) rfl dJ1_putVal_53 rfl (ihN rfl) rfl ?_
  refine bplain (pc' := 55) rfl dJ1_putVal_54 rfl (ihN rfl) rfl ?_
  refine bplain (pc' := 56) rfl dJ1_putVal_55 rfl (ihN rfl) rfl ?_
  refine bcall (pc' := 59) rfl dJ1_putVal_56 rfl (trivial) (lcv (n := 4) rfl (pvc (lfv mt_J1_newNode ⟨by decide, by decide⟩ mok_J1_newNode ⟨by decide, by decide⟩ ⟨q739, ln_83, Or.inl ⟨q738, Or.inl q740⟩⟩) (pvc (lfv mt_J34_newNode ⟨by decide, by decide⟩ mok_J34_newNode ⟨by decide, by decide⟩ ⟨q743, ln_83, Or.inr (Or.inr ⟨rfl, ⟨"java/util/HashMap", "newNode", "(ILjava/lang/Object;Ljava/lang/Object;Ljava/util/HashMap$Node;)Ljava/util/HashMap$Node;"⟩, "java/util/HashMap", q738, q741, lv_84, ln_83, q742, Or.inl ⟨_, _, _, q739, q749⟩⟩)⟩) (trivial))) (Or.inl (by decide))) (ihN rfl) rfl ?_
  refine bplain (pc' := 60) rfl dJ1_putVal_59 rfl (ihN rfl) rfl ?_
  refine bjmp (tg := 259) (pc' := 63) rfl (by decide) (by decide) rfl dJ1_putVal_60 rfl (ihN rfl) rfl ?_
  exact trivial
theorem bf_J1_putVal_63 : BOKt mt tJ1_putVal 32 63 b_J1_putVal_63 := by
  refine bplain (pc' := 65) rfl dJ1_putVal_63 rfl (ihN rfl) rfl ?_
  refine bthr (pc' := 68) rfl dJ1_putVal_65 rfl (lkf0 q431 lf_49) (trivial) (ihN rfl) rfl ?_
  refine bplain (pc' := 69) rfl dJ1_putVal_68 rfl (ihN rfl) rfl ?_
  refine bjmp (tg := 104) (pc' := 72) rfl (by decide) (by decide) rfl dJ1_putVal_69 rfl (ihN rfl) rfl ?_
  refine bplain (pc' := 74) rfl dJ1_putVal_72 rfl (ihN rfl) rfl ?_
  refine bthr (pc' := 77) rfl dJ1_putVal_74 rfl (lkf0 q437 lf_55) (trivial) (ihN rfl) rfl ?_
  refine bplain (pc' := 78) rfl dJ1_putVal_77 rfl (ihN rfl) rfl ?_
  refine bplain (pc' := 80) rfl dJ1_putVal_78 rfl (ihN rfl) rfl ?_
  refine bplain (pc' := 81) rfl dJ1_putVal_80 rfl (ihN rfl) rfl ?_
  refine bjmp (tg := 97) (pc' := 84) rfl (by decide) (by decide) rfl dJ1_putVal_81 rfl (ihN rfl) rfl ?_
  refine bplain (pc' := 85) rfl dJ1_putVal_84 rfl (ihN rfl) rfl ?_
  refine bjmp (tg := 104) (pc' := 88) rfl (by decide) (by decide) rfl dJ1_putVal_85 rfl (ihN rfl) rfl ?_
  refine bplain (pc' := 89) rfl dJ1_putVal_88 rfl (ihN rfl) rfl ?_
  refine bplain (pc' := 91) rfl dJ1_putVal_89 rfl (ihN rfl) rfl ?_
  refine bcall (pc' := 94) rfl dJ1_putVal_91 rfl (trivial) (lcv (n := 1) rfl (pvc (lfv mt_J40_equals ⟨by decide, by decide⟩ mok_J40_equals ⟨by decide, by decide⟩ ⟨q752, ln_85, Or.inl ⟨q751, Or.inl q755⟩⟩) (pvc (lfv mt_J40_equals ⟨by decide, by decide⟩ mok_J40_equals ⟨by decide, by decide⟩ ⟨q752, ln_85, Or.inl ⟨q751, Or.inl q765⟩⟩) (pvc (lfv mt_J40_equals ⟨by decide, by decide⟩ mok_J40_equals ⟨by decide, by decide⟩ ⟨q752, ln_85, Or.inl ⟨q751, Or.inl q754⟩⟩) (pvc (lfv mt_J40_equals ⟨by decide, by decide⟩ mok_J40_equals ⟨by decide, by decide⟩ ⟨q752, ln_85, Or.inl ⟨q751, Or.inl q757⟩⟩) (pvc (lfv mt_J40_equals ⟨by decide, by decide⟩ mok_J40_equals ⟨by decide, by decide⟩ ⟨q752, ln_85, Or.inl ⟨q751, Or.inl q764⟩⟩) (pvc (lfv mt_J2_equals ⟨by decide, by decide⟩ mok_J2_equals ⟨by decide, by decide⟩ ⟨q774, ln_85, Or.inr (Or.inr ⟨rfl, ⟨"java/lang/Object", "equals", "(Ljava/lang/Object;)Z"⟩, "java/lang/Object", q751, q753, lv_41, ln_85, q773, Or.inl ⟨_, _, _, q752, q782⟩⟩)⟩) (pvc (lfv mt_J2_equals ⟨by decide, by decide⟩ mok_J2_equals ⟨by decide, by decide⟩ ⟨q774, ln_85, Or.inr (Or.inr ⟨rfl, ⟨"java/lang/Object", "equals", "(Ljava/lang/Object;)Z"⟩, "java/lang/Object", q751, q753, lv_41, ln_85, q773, Or.inl ⟨_, _, _, q752, q782⟩⟩)⟩) (pvc (lfv mt_J40_equals ⟨by decide, by decide⟩ mok_J40_equals ⟨by decide, by decide⟩ ⟨q752, ln_85, Or.inl ⟨q751, Or.inl q756⟩⟩) (pvc (lfv mt_J40_equals ⟨by decide, by decide⟩ mok_J40_equals ⟨by decide, by decide⟩ ⟨q752, ln_85, Or.inl ⟨q751, Or.inl q762⟩⟩) (pvc (lfv mt_X8_equals ⟨by decide, by decide⟩ mok_X8_equals ⟨by decide, by decide⟩ ⟨q759, ln_85, Or.inr (Or.inr ⟨rfl, ⟨"java/lang/Object", "equals", "(Ljava/lang/Object;)Z"⟩, "java/lang/Object", q751, q753, lv_41, ln_85, q758, Or.inl ⟨_, _, _, q752, q782⟩⟩)⟩) (pvc (lfv mt_J40_equals ⟨by decide, by decide⟩ mok_J40_equals ⟨by decide, by decide⟩ ⟨q752, ln_85, Or.inl ⟨q751, Or.inl q763⟩⟩) (pvc (lfv mt_J40_equals ⟨by decide, by decide⟩ mok_J40_equals ⟨by decide, by decide⟩ ⟨q752, ln_85, Or.inl ⟨q751, Or.inl q766⟩⟩) (trivial))))))))))))) (Or.inl (by decide))) (ihN rfl) rfl ?_
  refine bjmp (tg := 104) (pc' := 97) rfl (by decide) (by decide) rfl dJ1_putVal_94 rfl (ihN rfl) rfl ?_
  exact bnop0 rfl (by decide)
theorem bf_J1_putVal_97 : BOKt mt tJ1_putVal 32 97 b_J1_putVal_97 := by
  refine bnop1 ?_
  refine bplain (pc' := 99) rfl dJ1_putVal_97 rfl (ihN rfl) rfl ?_
  refine bplain (pc' := 101) rfl dJ1_putVal_99 rfl (ihN rfl) rfl ?_
  refine bjmp (tg := 222) (pc' := 104) rfl (by decide) (by decide) rfl dJ1_putVal_101 rfl (ihN rfl) rfl ?_
  exact trivial
theorem bf_J1_putVal_104 : BOKt mt tJ1_putVal 32 104 b_J1_putVal_104 := by
  refine bnop1 ?_
  refine bplain (pc' := 106) rfl dJ1_putVal_104 rfl (ihN rfl) rfl ?_
  refine bobj (pc' := 109) rfl dJ1_putVal_106 rfl (lkc (nm := "java/util/HashMap$TreeNode") q396 lg_50 lb_51) (ihN rfl) rfl ?_
  refine bjmp (tg := 131) (pc' := 112) rfl (by decide) (by decide) rfl dJ1_putVal_109 rfl (ihN rfl) rfl ?_
  refine bplain (pc' := 114) rfl dJ1_putVal_112 rfl (ihN rfl) rfl ?_
  refine bthr (pc' := 117) rfl dJ1_putVal_114 rfl (lkc (nm := "java/util/HashMap$TreeNode") q396 lg_50 lb_52) (Or.inl rfl) (ihN rfl) rfl ?_
  refine bplain (pc' := 118) rfl dJ1_putVal_117 rfl (ihN rfl) rfl ?_
  refine bplain (pc' := 120) rfl dJ1_putVal_118 rfl (ihN rfl) rfl ?_
  refine bplain (pc' := 121) rfl dJ1_putVal_120 rfl (ihN rfl) rfl ?_
  refine bplain (pc' := 122) rfl dJ1_putVal_121 rfl (ihN rfl) rfl ?_
  refine bplain (pc' := 123) rfl dJ1_putVal_122 rfl (ihN rfl) rfl ?_
  refine bcall (pc' := 126) rfl dJ1_putVal_123 rfl (trivial) (trivial) (ihN rfl) rfl ?_
  refine bplain (pc' := 128) rfl dJ1_putVal_126 rfl (ihN rfl) rfl ?_
  refine bjmp (tg := 222) (pc' := 131) rfl (by decide) (by decide) rfl dJ1_putVal_128 rfl (ihN rfl) rfl ?_
  exact trivial
theorem bf_J1_putVal_131 : BOKt mt tJ1_putVal 32 131 b_J1_putVal_131 := by
  refine bplain (pc' := 132) rfl dJ1_putVal_131 rfl (ihN rfl) rfl ?_
  refine bplain (pc' := 134) rfl dJ1_putVal_132 rfl (ihN rfl) rfl ?_
  exact bnop0 rfl (by decide)
theorem bf_J1_putVal_134 : BOKt mt tJ1_putVal 32 134 b_J1_putVal_134 := by
  refine bnop1 ?_
  refine bplain (pc' := 136) rfl dJ1_putVal_134 rfl (ihN rfl) rfl ?_
  refine bthr (pc' := 139) rfl dJ1_putVal_136 rfl (lkf0 q448 lf_48) (trivial) (ihN rfl) rfl ?_
  refine bplain (pc' := 140) rfl dJ1_putVal_139 rfl (ihN rfl) rfl ?_
  refine bplain (pc' := 142) rfl dJ1_putVal_140 rfl (ihN rfl) rfl ?_
  refine bjmp (tg := 175) (pc' := 145) rfl (by decide) (by decide) rfl dJ1_putVal_142 rfl (ihN rfl) rfl ?_
  refine bplain (pc' := 147) rfl dJ1_putVal_145 rfl (ihN rfl) rfl ?_
  refine bplain (pc' := 148) rfl dJ1_putVal_147 rfl (ihN rfl) rfl ?_
  refine bplain (pc' := 149) rfl dJ1_putVal_148 rfl (ihN rfl) rfl ?_
  refine bplain (pc' := 150) rfl dJ1_putVal_149 rfl (ihN rfl) rfl ?_
  refine bplain (pc' := 151) rfl dJ1_putVal_150 rfl (ihN rfl) rfl ?_
  refine bplain (pc' := 152) rfl dJ1_putVal_151 rfl (ihN rfl) rfl ?_
  refine bcall (pc' := 155) rfl dJ1_putVal_152 rfl (trivial) (lcv (n := 4) rfl (pvc (lfv mt_J1_newNode ⟨by decide, by decide⟩ mok_J1_newNode ⟨by decide, by decide⟩ ⟨q739, ln_83, Or.inl ⟨q738, Or.inl q740⟩⟩) (pvc (lfv mt_J34_newNode ⟨by decide, by decide⟩ mok_J34_newNode ⟨by decide, by decide⟩ ⟨q743, ln_83, Or.inr (Or.inr ⟨rfl, ⟨"java/util/HashMap", "newNode", "(ILjava/lang/Object;Ljava/lang/Object;Ljava/util/HashMap$Node;)Ljava/util/HashMap$Node;"⟩, "java/util/HashMap", q738, q741, lv_84, ln_83, q742, Or.inl ⟨_, _, _, q739, q749⟩⟩)⟩) (trivial))) (Or.inl (by decide))) (ihN rfl) rfl ?_
  refine bobj (pc' := 158) rfl dJ1_putVal_155 rfl (⟨lkf0 q448 lf_48, lkp0 lp_53⟩) (ihN rfl) rfl ?_
  refine bplain (pc' := 160) rfl dJ1_putVal_158 rfl (ihN rfl) rfl ?_
  refine bplain (pc' := 162) rfl dJ1_putVal_160 rfl (ihN rfl) rfl ?_
  refine bjmp (tg := 222) (pc' := 165) rfl (by decide) (by decide) rfl dJ1_putVal_162 rfl (ihN rfl) rfl ?_
  refine bplain (pc' := 166) rfl dJ1_putVal_165 rfl (ihN rfl) rfl ?_
  refine bplain (pc' := 168) rfl dJ1_putVal_166 rfl (ihN rfl) rfl ?_
  refine bplain (pc' := 169) rfl dJ1_putVal_168 rfl (ihN rfl) rfl ?_
  refine bcall (pc' := 172) rfl dJ1_putVal_169 rfl (trivial) (lcv (n := 2) rfl (pvc (lfv mt_J1_treeifyBin ⟨by decide, by decide⟩ mok_J1_treeifyBin ⟨by decide, by decide⟩ ⟨q835, ln_86, Or.inl ⟨q834, Or.inl q836⟩⟩) (pvc (lfv mt_J1_treeifyBin ⟨by decide, by decide⟩ mok_J1_treeifyBin ⟨by decide, by decide⟩ ⟨q835, ln_86, Or.inl ⟨q834, Or.inl q838⟩⟩) (trivial))) (Or.inl (by decide))) (ihN rfl) rfl ?_
  refine bjmp (tg := 222) (pc' := 175) rfl (by decide) (by decide) rfl dJ1_putVal_172 rfl (ihN rfl) rfl ?_
  exact trivial
theorem bf_J1_putVal_175 : BOKt mt tJ1_putVal 32 175 b_J1_putVal_175 := by
  refine bplain (pc' := 177) rfl dJ1_putVal_175 rfl (ihN rfl) rfl ?_
  refine bthr (pc' := 180) rfl dJ1_putVal_177 rfl (lkf0 q431 lf_49) (trivial) (ihN rfl) rfl ?_
  refine bplain (pc' := 181) rfl dJ1_putVal_180 rfl (ihN rfl) rfl ?_
  refine bjmp (tg := 212) (pc' := 184) rfl (by decide) (by decide) rfl dJ1_putVal_181 rfl (ihN rfl) rfl ?_
  refine bplain (pc' := 186) rfl dJ1_putVal_184 rfl (ihN rfl) rfl ?_
  refine bthr (pc' := 189) rfl dJ1_putVal_186 rfl (lkf0 q437 lf_55) (trivial) (ihN rfl) rfl ?_
  refine bplain (pc' := 190) rfl dJ1_putVal_189 rfl (ihN rfl) rfl ?_
  refine bplain (pc' := 192) rfl dJ1_putVal_190 rfl (ihN rfl) rfl ?_
  refine bplain (pc' := 193) rfl dJ1_putVal_192 rfl (ihN rfl) rfl ?_
  refine bjmp (tg := 222) (pc' := 196) rfl (by decide) (by decide) rfl dJ1_putVal_193 rfl (ihN rfl) rfl ?_
  refine bplain (pc' := 197) rfl dJ1_putVal_196 rfl (ihN rfl) rfl ?_
  refine bjmp (tg := 212) (pc' := 200) rfl (by decide) (by decide) rfl dJ1_putVal_197 rfl (ihN rfl) rfl ?_
  refine bplain (pc' := 201) rfl dJ1_putVal_200 rfl (ihN rfl) rfl ?_
  refine bplain (pc' := 203) rfl dJ1_putVal_201 rfl (ihN rfl) rfl ?_
  refine bcall (pc' := 206) rfl dJ1_putVal_203 rfl (trivial) (lcv (n := 1) rfl (pvc (lfv mt_J40_equals ⟨by decide, by decide⟩ mok_J40_equals ⟨by decide, by decide⟩ ⟨q752, ln_85, Or.inl ⟨q751, Or.inl q755⟩⟩) (pvc (lfv mt_J40_equals ⟨by decide, by decide⟩ mok_J40_equals ⟨by decide, by decide⟩ ⟨q752, ln_85, Or.inl ⟨q751, Or.inl q765⟩⟩) (pvc (lfv mt_J40_equals ⟨by decide, by decide⟩ mok_J40_equals ⟨by decide, by decide⟩ ⟨q752, ln_85, Or.inl ⟨q751, Or.inl q754⟩⟩) (pvc (lfv mt_J40_equals ⟨by decide, by decide⟩ mok_J40_equals ⟨by decide, by decide⟩ ⟨q752, ln_85, Or.inl ⟨q751, Or.inl q757⟩⟩) (pvc (lfv mt_J40_equals ⟨by decide, by decide⟩ mok_J40_equals ⟨by decide, by decide⟩ ⟨q752, ln_85, Or.inl ⟨q751, Or.inl q764⟩⟩) (pvc (lfv mt_J2_equals ⟨by decide, by decide⟩ mok_J2_equals ⟨by decide, by decide⟩ ⟨q774, ln_85, Or.inr (Or.inr ⟨rfl, ⟨"java/lang/Object", "equals", "(Ljava/lang/Object;)Z"⟩, "java/lang/Object", q751, q753, lv_41, ln_85, q773, Or.inl ⟨_, _, _, q752, q782⟩⟩)⟩) (pvc (lfv mt_J2_equals ⟨by decide, by decide⟩ mok_J2_equals ⟨by decide, by decide⟩ ⟨q774, ln_85, Or.inr (Or.inr ⟨rfl, ⟨"java/lang/Object", "equals", "(Ljava/lang/Object;)Z"⟩, "java/lang/Object", q751, q753, lv_41, ln_85, q773, Or.inl ⟨_, _, _, q752, q782⟩⟩)⟩) (pvc (lfv mt_J40_equals ⟨by decide, by decide⟩ mok_J40_equals ⟨by decide, by decide⟩ ⟨q752, ln_85, Or.inl ⟨q751, Or.inl q756⟩⟩) (pvc (lfv mt_J40_equals ⟨by decide, by decide⟩ mok_J40_equals ⟨by decide, by decide⟩ ⟨q752, ln_85, Or.inl ⟨q751, Or.inl q762⟩⟩) (pvc (lfv mt_X8_equals ⟨by decide, by decide⟩ mok_X8_equals ⟨by decide, by decide⟩ ⟨q759, ln_85, Or.inr (Or.inr ⟨rfl, ⟨"java/lang/Object", "equals", "(Ljava/lang/Object;)Z"⟩, "java/lang/Object", q751, q753, lv_41, ln_85, q758, Or.inl ⟨_, _, _, q752, q782⟩⟩)⟩) (pvc (lfv mt_J40_equals ⟨by decide, by decide⟩ mok_J40_equals ⟨by decide, by decide⟩ ⟨q752, ln_85, Or.inl ⟨q751, Or.inl q763⟩⟩) (pvc (lfv mt_J40_equals ⟨by decide, by decide⟩ mok_J40_equals ⟨by decide, by decide⟩ ⟨q752, ln_85, Or.inl ⟨q751, Or.inl q766⟩⟩) (trivial))))))))))))) (Or.inl (by decide))) (ihN rfl) rfl ?_
  refine bjmp (tg := 212) (pc' := 209) rfl (by decide) (by decide) rfl dJ1_putVal_206 rfl (ihN rfl) rfl ?_
  refine bjmp (tg := 222) (pc' := 212) rfl (by decide) (by decide) rfl dJ1_putVal_209 rfl (ihN rfl) rfl ?_
  exact trivial
theorem bf_J1_putVal_212 : BOKt mt tJ1_putVal 32 212 b_J1_putVal_212 := by
  refine bnop1 ?_
  refine bplain (pc' := 214) rfl dJ1_putVal_212 rfl (ihN rfl) rfl ?_
  refine bplain (pc' := 216) rfl dJ1_putVal_214 rfl (ihN rfl) rfl ?_
  refine bplain (pc' := 219) rfl dJ1_putVal_216 rfl (ihN rfl) rfl ?_
  refine bjmp (tg := 134) (pc' := 222) rfl (by decide) (by decide) rfl dJ1_putVal_219 rfl (ihN rfl) rfl ?_
  exact trivial
theorem bf_J1_putVal_222 : BOKt mt tJ1_putVal 32 222 b_J1_putVal_222 := by
  refine bnop1 ?_
  refine bplain (pc' := 224) rfl dJ1_putVal_222 rfl (ihN rfl) rfl ?_
  refine bjmp (tg := 259) (pc' := 227) rfl (by decide) (by decide) rfl dJ1_putVal_224 rfl (ihN rfl) rfl ?_
  refine bplain (pc' := 229) rfl dJ1_putVal_227 rfl (ihN rfl) rfl ?_
  refine bthr (pc' := 232) rfl dJ1_putVal_229 rfl (lkf0 q442 lf_57) (trivial) (ihN rfl) rfl ?_
  refine bplain (pc' := 234) rfl dJ1_putVal_232 rfl (ihN rfl) rfl ?_
  refine bplain (pc' := 236) rfl dJ1_putVal_234 rfl (ihN rfl) rfl ?_
  refine bjmp (tg := 244) (pc' := 239) rfl (by decide) (by decide) rfl dJ1_putVal_236 rfl (ihN rfl) rfl ?_
  refine bplain (pc' := 241) rfl dJ1_putVal_239 rfl (ihN rfl) rfl ?_
  refine bjmp (tg := 250) (pc' := 244) rfl (by decide) (by decide) rfl dJ1_putVal_241 rfl (ihN rfl) rfl ?_
  exact bnop0 rfl (by decide)
theorem bf_J1_putVal_244 : BOKt mt tJ1_putVal 32 244 b_J1_putVal_244 := by
  refine bnop1 ?_
  refine bplain (pc' := 246) rfl dJ1_putVal_244 rfl (ihN rfl) rfl ?_
  refine bplain (pc' := 247) rfl dJ1_putVal_246 rfl (ihN rfl) rfl ?_
  refine bobj (pc' := 250) rfl dJ1_putVal_247 rfl (⟨lkf0 q442 lf_57, lkp0 lp_58⟩) (ihN rfl) rfl ?_
  exact bnop0 rfl (by decide)
theorem bf_J1_putVal_250 : BOKt mt tJ1_putVal 32 250 b_J1_putVal_250 := by
  refine bnop1 ?_
  refine bplain (pc' := 251) rfl dJ1_putVal_250 rfl (ihN rfl) rfl ?_
  refine bplain (pc' := 253) rfl dJ1_putVal_251 rfl (ihN rfl) rfl ?_
  refine bcall (pc' := 256) rfl dJ1_putVal_253 rfl (trivial) (lcv (n := 1) rfl (pvc (lfv mt_J1_afterNodeAccess ⟨by decide, by decide⟩ mok_J1_afterNodeAccess ⟨by decide, by decide⟩ ⟨q850, ln_87, Or.inl ⟨q849, Or.inl q851⟩⟩) (pvc (lfv mt_J34_afterNodeAccess ⟨by decide, by decide⟩ mok_J34_afterNodeAccess ⟨by decide, by decide⟩ ⟨q854, ln_87, Or.inr (Or.inr ⟨rfl, ⟨"java/util/HashMap", "afterNodeAccess", "(Ljava/util/HashMap$Node;)V"⟩, "java/util/HashMap", q849, q852, lv_84, ln_87, q853, Or.inl ⟨_, _, _, q850, q856⟩⟩)⟩) (trivial))) (Or.inl (by decide))) (ihN rfl) rfl ?_
  refine bplain (pc' := 258) rfl dJ1_putVal_256 rfl (ihN rfl) rfl ?_
  refine bret (pc' := 259) rfl dJ1_putVal_258 rfl (⟨_, rfl, Or.inl ⟨_, rfl⟩⟩) (ihN rfl) rfl ?_
  exact trivial
theorem bf_J1_putVal_259 : BOKt mt tJ1_putVal 32 259 b_J1_putVal_259 := by
  refine bnop1 ?_
  refine bplain (pc' := 260) rfl dJ1_putVal_259 rfl (ihN rfl) rfl ?_
  refine bplain (pc' := 261) rfl dJ1_putVal_260 rfl (ihN rfl) rfl ?_
  refine bthr (pc' := 264) rfl dJ1_putVal_261 rfl (lkf0 q213 lf_88) (trivial) (ihN rfl) rfl ?_
  refine bplain (pc' := 265) rfl dJ1_putVal_264 rfl (ihN rfl) rfl ?_
  refine bplain (pc' := 266) rfl dJ1_putVal_265 rfl (ihN rfl) rfl ?_
  refine bobj (pc' := 269) rfl dJ1_putVal_266 rfl (⟨lkf0 q213 lf_88, lkp0 lp_89⟩) (ihN rfl) rfl ?_
  refine bplain (pc' := 270) rfl dJ1_putVal_269 rfl (ihN rfl) rfl ?_
  refine bplain (pc' := 271) rfl dJ1_putVal_270 rfl (ihN rfl) rfl ?_
  refine bthr (pc' := 274) rfl dJ1_putVal_271 rfl (lkf0 q209 lf_90) (trivial) (ihN rfl) rfl ?_
  refine bplain (pc' := 275) rfl dJ1_putVal_274 rfl (ihN rfl) rfl ?_
  refine bplain (pc' := 276) rfl dJ1_putVal_275 rfl (ihN rfl) rfl ?_
  refine bplain (pc' := 277) rfl dJ1_putVal_276 rfl (ihN rfl) rfl ?_
  refine bobj (pc' := 280) rfl dJ1_putVal_277 rfl (⟨lkf0 q209 lf_90, lkp0 lp_91⟩) (ihN rfl) rfl ?_
  refine bplain (pc' := 281) rfl dJ1_putVal_280 rfl (ihN rfl) rfl ?_
  refine bthr (pc' := 284) rfl dJ1_putVal_281 rfl (lkf0 q214 lf_43) (trivial) (ihN rfl) rfl ?_
  refine bjmp (tg := 292) (pc' := 287) rfl (by decide) (by decide) rfl dJ1_putVal_284 rfl (ihN rfl) rfl ?_
  refine bplain (pc' := 288) rfl dJ1_putVal_287 rfl (ihN rfl) rfl ?_
  refine bcall (pc' := 291) rfl dJ1_putVal_288 rfl (trivial) (lcv (n := 0) rfl (pvc (lfv mt_J1_resize ⟨by decide, by decide⟩ mok_J1_resize ⟨by decide, by decide⟩ ⟨q386, ln_75, Or.inl ⟨q385, Or.inl q387⟩⟩) (pvc (lfv mt_J1_resize ⟨by decide, by decide⟩ mok_J1_resize ⟨by decide, by decide⟩ ⟨q386, ln_75, Or.inl ⟨q385, Or.inl q389⟩⟩) (trivial))) (Or.inl (by decide))) (ihN rfl) rfl ?_
  refine bplain (pc' := 292) rfl dJ1_putVal_291 rfl (ihN rfl) rfl ?_
  exact bnop0 rfl (by decide)
theorem bf_J1_putVal_292 : BOKt mt tJ1_putVal 32 292 b_J1_putVal_292 := by
  refine bnop1 ?_
  refine bplain (pc' := 293) rfl dJ1_putVal_292 rfl (ihN rfl) rfl ?_
  refine bplain (pc' := 295) rfl dJ1_putVal_293 rfl (ihN rfl) rfl ?_
  refine bcall (pc' := 298) rfl dJ1_putVal_295 rfl (trivial) (lcv (n := 1) rfl (pvc (lfv mt_J1_afterNodeInsertion ⟨by decide, by decide⟩ mok_J1_afterNodeInsertion ⟨by decide, by decide⟩ ⟨q858, ln_92, Or.inl ⟨q857, Or.inl q859⟩⟩) (pvc (lfv mt_J34_afterNodeInsertion ⟨by decide, by decide⟩ mok_J34_afterNodeInsertion ⟨by decide, by decide⟩ ⟨q862, ln_92, Or.inr (Or.inr ⟨rfl, ⟨"java/util/HashMap", "afterNodeInsertion", "(Z)V"⟩, "java/util/HashMap", q857, q860, lv_84, ln_92, q861, Or.inl ⟨_, _, _, q858, q868⟩⟩)⟩) (trivial))) (Or.inl (by decide))) (ihN rfl) rfl ?_
  refine bplain (pc' := 299) rfl dJ1_putVal_298 rfl (ihN rfl) rfl ?_
  refine bret (pc' := 300) rfl dJ1_putVal_299 rfl (⟨_, rfl, Or.inl ⟨_, rfl⟩⟩) (ihN rfl) rfl ?_
  exact trivial
theorem tf_J1_putVal : ∀ x ∈ tb_J1_putVal, BOK mt 32 x.1 x.2 := tb_c mt_J1_putVal bf_J1_putVal_0 (tb_c mt_J1_putVal bf_J1_putVal_19 (tb_c mt_J1_putVal bf_J1_putVal_29 (tb_c mt_J1_putVal bf_J1_putVal_63 (tb_c mt_J1_putVal bf_J1_putVal_97 (tb_c mt_J1_putVal bf_J1_putVal_104 (tb_c mt_J1_putVal bf_J1_putVal_131 (tb_c mt_J1_putVal bf_J1_putVal_134 (tb_c mt_J1_putVal bf_J1_putVal_175 (tb_c mt_J1_putVal bf_J1_putVal_212 (tb_c mt_J1_putVal bf_J1_putVal_222 (tb_c mt_J1_putVal bf_J1_putVal_244 (tb_c mt_J1_putVal bf_J1_putVal_250 (tb_c mt_J1_putVal bf_J1_putVal_259 (tb_c mt_J1_putVal bf_J1_putVal_292 (tb_n)))))))))))))))
theorem bf_J1_put_0 : BOKt mt tJ1_put 33 0 b_J1_put_0 := by
  refine bplain (pc' := 1) rfl dJ1_put_0 rfl (ihN rfl) rfl ?_
  refine bplain (pc' := 2) rfl dJ1_put_1 rfl (ihN rfl) rfl ?_
  refine bcall (pc' := 5) rfl dJ1_put_2 rfl (trivial) (lcs (l := q285) mt_J1_hash ⟨by decide, by decide⟩ mok_J1_hash rfl ln_93 (Or.inl q284)) (ihN rfl) rfl ?_
  refine bplain (pc' := 6) rfl dJ1_put_5 rfl (ihN rfl) rfl ?_
  refine bplain (pc' := 7) rfl dJ1_put_6 rfl (ihN rfl) rfl ?_
  refine bplain (pc' := 8) rfl dJ1_put_7 rfl (ihN rfl) rfl ?_
  refine bplain (pc' := 9) rfl dJ1_put_8 rfl (ihN rfl) rfl ?_
  refine bcall (pc' := 12) rfl dJ1_put_9 rfl (trivial) (lcv (n := 5) rfl (pvc (lfv mt_J1_putVal ⟨by decide, by decide⟩ mok_J1_putVal ⟨by decide, by decide⟩ ⟨q380, ln_94, Or.inl ⟨q379, Or.inl q381⟩⟩) (pvc (lfv mt_J1_putVal ⟨by decide, by decide⟩ mok_J1_putVal ⟨by decide, by decide⟩ ⟨q380, ln_94, Or.inl ⟨q379, Or.inl q383⟩⟩) (trivial))) (Or.inl (by decide))) (ihN rfl) rfl ?_
  refine bret (pc' := 13) rfl dJ1_put_12 rfl (⟨_, rfl, Or.inl ⟨_, rfl⟩⟩) (ihN rfl) rfl ?_
  exact trivial
theorem tf_J1_put : ∀ x ∈ tb_J1_put, BOK mt 33 x.1 x.2 := tb_c mt_J1_put bf_J1_put_0 (tb_n)
theorem bf_X1_puts_0 : BOKt mt tX1_puts 34 0 b_X1_puts_0 := by
  refine bplain (pc' := 1) rfl dX1_puts_0 rfl (ihN rfl) rfl ?_
  refine bplain (pc' := 2) rfl dX1_puts_1 rfl (ihN rfl) rfl ?_
  refine bplain (pc' := 3) rfl dX1_puts_2 rfl (ihN rfl) rfl ?_
  refine bcall (pc' := 6) rfl dX1_puts_3 rfl (trivial) (lcv (n := 2) rfl (pvc (lfv mt_J1_put ⟨by decide, by decide⟩ mok_J1_put ⟨by decide, by decide⟩ ⟨q279, ln_95, Or.inl ⟨q278, Or.inl q280⟩⟩) (pvc (lfv mt_J1_put ⟨by decide, by decide⟩ mok_J1_put ⟨by decide, by decide⟩ ⟨q279, ln_95, Or.inl ⟨q278, Or.inl q282⟩⟩) (trivial))) (Or.inl (by decide))) (ihN rfl) rfl ?_
  refine bplain (pc' := 7) rfl dX1_puts_6 rfl (ihN rfl) rfl ?_
  refine bret (pc' := 8) rfl dX1_puts_7 rfl (rfl) (ihN rfl) rfl ?_
  exact trivial
theorem tf_X1_puts : ∀ x ∈ tb_X1_puts, BOK mt 34 x.1 x.2 := tb_c mt_X1_puts bf_X1_puts_0 (tb_n)
theorem bf_X1_all_0 : BOKt mt tX1_all 35 0 b_X1_all_0 := by
  refine bthr (pc' := 3) rfl dX1_all_0 rfl (⟨⟨by decide, by decide, by decide⟩, rfl, q198, q199, q137⟩) (trivial) (ihN rfl) rfl ?_
  refine bplain (pc' := 4) rfl dX1_all_3 rfl (ihN rfl) rfl ?_
  refine bcall (pc' := 7) rfl dX1_all_4 rfl (trivial) (lci mt_J1_init ⟨by decide, by decide⟩ mok_J1_init rfl rfl rfl ln_0 q201 rfl (Or.inl q200)) (ihN rfl) rfl ?_
  refine bplain (pc' := 8) rfl dX1_all_7 rfl (ihN rfl) rfl ?_
  refine bplain (pc' := 9) rfl dX1_all_8 rfl (ihN rfl) rfl ?_
  refine bobj (pc' := 11) rfl dX1_all_9 rfl (lkls (n := 1) (by decide) rfl) (ihN rfl) rfl ?_
  refine bthr (pc' := 14) rfl dX1_all_11 rfl (⟨⟨by decide, by decide, by decide⟩, rfl, q236, q237, q135⟩) (trivial) (ihN rfl) rfl ?_
  refine bplain (pc' := 15) rfl dX1_all_14 rfl (ihN rfl) rfl ?_
  refine bplain (pc' := 16) rfl dX1_all_15 rfl (ihN rfl) rfl ?_
  refine bplain (pc' := 17) rfl dX1_all_16 rfl (ihN rfl) rfl ?_
  refine bcall (pc' := 22) rfl dX1_all_17 rfl (trivial) (⟨1, ⟨⟨by decide, by decide⟩, rfl, rfl, rfl⟩, rfl, rfl, by decide⟩) (ihN rfl) rfl ?_
  refine bcall (pc' := 27) rfl dX1_all_22 rfl (trivial) (⟨2, ⟨⟨by decide, by decide⟩, rfl, rfl, rfl⟩, rfl, rfl, by decide⟩) (ihN rfl) rfl ?_
  refine bcall (pc' := 32) rfl dX1_all_27 rfl (trivial) (⟨3, ⟨⟨by decide, by decide⟩, rfl, rfl, rfl⟩, rfl, rfl, by decide⟩) (ihN rfl) rfl ?_
  refine bcall (pc' := 35) rfl dX1_all_32 rfl (trivial) (lci mt_X1_init ⟨by decide, by decide⟩ mok_X1_init rfl rfl rfl ln_96 q247 rfl (Or.inl q246)) (ihN rfl) rfl ?_
  refine bcall (pc' := 38) rfl dX1_all_35 rfl (trivial) (lcs (l := q276) mt_X1_puts ⟨by decide, by decide⟩ mok_X1_puts rfl ln_97 (Or.inl q275)) (ihN rfl) rfl ?_
  refine bplain (pc' := 39) rfl dX1_all_38 rfl (ihN rfl) rfl ?_
  refine bobj (pc' := 41) rfl dX1_all_39 rfl (lkls (n := 2) (by decide) rfl) (ihN rfl) rfl ?_
  refine bthr (pc' := 44) rfl dX1_all_41 rfl (⟨⟨by decide, by decide, by decide⟩, rfl, q236, q237, q135⟩) (trivial) (ihN rfl) rfl ?_
  refine bplain (pc' := 45) rfl dX1_all_44 rfl (ihN rfl) rfl ?_
  refine bplain (pc' := 46) rfl dX1_all_45 rfl (ihN rfl) rfl ?_
  refine bplain (pc' := 47) rfl dX1_all_46 rfl (ihN rfl) rfl ?_
  refine bcall (pc' := 52) rfl dX1_all_47 rfl (trivial) (⟨4, ⟨⟨by decide, by decide⟩, rfl, rfl, rfl⟩, rfl, rfl, by decide⟩) (ihN rfl) rfl ?_
  refine bcall (pc' := 57) rfl dX1_all_52 rfl (trivial) (⟨5, ⟨⟨by decide, by decide⟩, rfl, rfl, rfl⟩, rfl, rfl, by decide⟩) (ihN rfl) rfl ?_
  refine bcall (pc' := 62) rfl dX1_all_57 rfl (trivial) (⟨6, ⟨⟨by decide, by decide⟩, rfl, rfl, rfl⟩, rfl, rfl, by decide⟩) (ihN rfl) rfl ?_
  refine bcall (pc' := 65) rfl dX1_all_62 rfl (trivial) (lci mt_X1_init ⟨by decide, by decide⟩ mok_X1_init rfl rfl rfl ln_96 q247 rfl (Or.inl q246)) (ihN rfl) rfl ?_
  refine bcall (pc' := 68) rfl dX1_all_65 rfl (trivial) (lcs (l := q276) mt_X1_puts ⟨by decide, by decide⟩ mok_X1_puts rfl ln_97 (Or.inl q275)) (ihN rfl) rfl ?_
  refine bplain (pc' := 69) rfl dX1_all_68 rfl (ihN rfl) rfl ?_
  refine bobj (pc' := 71) rfl dX1_all_69 rfl (lkls (n := 3) (by decide) rfl) (ihN rfl) rfl ?_
  refine bthr (pc' := 74) rfl dX1_all_71 rfl (⟨⟨by decide, by decide, by decide⟩, rfl, q236, q237, q135⟩) (trivial) (ihN rfl) rfl ?_
  refine bplain (pc' := 75) rfl dX1_all_74 rfl (ihN rfl) rfl ?_
  refine bplain (pc' := 76) rfl dX1_all_75 rfl (ihN rfl) rfl ?_
  refine bplain (pc' := 77) rfl dX1_all_76 rfl (ihN rfl) rfl ?_
  refine bcall (pc' := 82) rfl dX1_all_77 rfl (trivial) (⟨7, ⟨⟨by decide, by decide⟩, rfl, rfl, rfl⟩, rfl, rfl, by decide⟩) (ihN rfl) rfl ?_
  refine bcall (pc' := 87) rfl dX1_all_82 rfl (trivial) (⟨8, ⟨⟨by decide, by decide⟩, rfl, rfl, rfl⟩, rfl, rfl, by decide⟩) (ihN rfl) rfl ?_
  refine bcall (pc' := 92) rfl dX1_all_87 rfl (trivial) (⟨9, ⟨⟨by decide, by decide⟩, rfl, rfl, rfl⟩, rfl, rfl, by decide⟩) (ihN rfl) rfl ?_
  refine bcall (pc' := 95) rfl dX1_all_92 rfl (trivial) (lci mt_X1_init ⟨by decide, by decide⟩ mok_X1_init rfl rfl rfl ln_96 q247 rfl (Or.inl q246)) (ihN rfl) rfl ?_
  refine bcall (pc' := 98) rfl dX1_all_95 rfl (trivial) (lcs (l := q276) mt_X1_puts ⟨by decide, by decide⟩ mok_X1_puts rfl ln_97 (Or.inl q275)) (ihN rfl) rfl ?_
  refine bplain (pc' := 99) rfl dX1_all_98 rfl (ihN rfl) rfl ?_
  refine bobj (pc' := 101) rfl dX1_all_99 rfl (lkls (n := 4) (by decide) rfl) (ihN rfl) rfl ?_
  refine bthr (pc' := 104) rfl dX1_all_101 rfl (⟨⟨by decide, by decide, by decide⟩, rfl, q236, q237, q135⟩) (trivial) (ihN rfl) rfl ?_
  refine bplain (pc' := 105) rfl dX1_all_104 rfl (ihN rfl) rfl ?_
  refine bplain (pc' := 106) rfl dX1_all_105 rfl (ihN rfl) rfl ?_
  refine bplain (pc' := 107) rfl dX1_all_106 rfl (ihN rfl) rfl ?_
  refine bcall (pc' := 112) rfl dX1_all_107 rfl (trivial) (⟨10, ⟨⟨by decide, by decide⟩, rfl, rfl, rfl⟩, rfl, rfl, by decide⟩) (ihN rfl) rfl ?_
  refine bcall (pc' := 117) rfl dX1_all_112 rfl (trivial) (⟨11, ⟨⟨by decide, by decide⟩, rfl, rfl, rfl⟩, rfl, rfl, by decide⟩) (ihN rfl) rfl ?_
  refine bcall (pc' := 122) rfl dX1_all_117 rfl (trivial) (⟨12, ⟨⟨by decide, by decide⟩, rfl, rfl, rfl⟩, rfl, rfl, by decide⟩) (ihN rfl) rfl ?_
  refine bcall (pc' := 125) rfl dX1_all_122 rfl (trivial) (lci mt_X1_init ⟨by decide, by decide⟩ mok_X1_init rfl rfl rfl ln_96 q247 rfl (Or.inl q246)) (ihN rfl) rfl ?_
  refine bcall (pc' := 128) rfl dX1_all_125 rfl (trivial) (lcs (l := q276) mt_X1_puts ⟨by decide, by decide⟩ mok_X1_puts rfl ln_97 (Or.inl q275)) (ihN rfl) rfl ?_
  refine bplain (pc' := 129) rfl dX1_all_128 rfl (ihN rfl) rfl ?_
  refine bobj (pc' := 131) rfl dX1_all_129 rfl (lkls (n := 5) (by decide) rfl) (ihN rfl) rfl ?_
  refine bthr (pc' := 134) rfl dX1_all_131 rfl (⟨⟨by decide, by decide, by decide⟩, rfl, q236, q237, q135⟩) (trivial) (ihN rfl) rfl ?_
  refine bplain (pc' := 135) rfl dX1_all_134 rfl (ihN rfl) rfl ?_
  refine bplain (pc' := 136) rfl dX1_all_135 rfl (ihN rfl) rfl ?_
  refine bplain (pc' := 137) rfl dX1_all_136 rfl (ihN rfl) rfl ?_
  refine bcall (pc' := 142) rfl dX1_all_137 rfl (trivial) (⟨13, ⟨⟨by decide, by decide⟩, rfl, rfl, rfl⟩, rfl, rfl, by decide⟩) (ihN rfl) rfl ?_
  refine bcall (pc' := 147) rfl dX1_all_142 rfl (trivial) (⟨14, ⟨⟨by decide, by decide⟩, rfl, rfl, rfl⟩, rfl, rfl, by decide⟩) (ihN rfl) rfl ?_
  refine bcall (pc' := 152) rfl dX1_all_147 rfl (trivial) (⟨15, ⟨⟨by decide, by decide⟩, rfl, rfl, rfl⟩, rfl, rfl, by decide⟩) (ihN rfl) rfl ?_
  refine bcall (pc' := 155) rfl dX1_all_152 rfl (trivial) (lci mt_X1_init ⟨by decide, by decide⟩ mok_X1_init rfl rfl rfl ln_96 q247 rfl (Or.inl q246)) (ihN rfl) rfl ?_
  refine bcall (pc' := 158) rfl dX1_all_155 rfl (trivial) (lcs (l := q276) mt_X1_puts ⟨by decide, by decide⟩ mok_X1_puts rfl ln_97 (Or.inl q275)) (ihN rfl) rfl ?_
  refine bplain (pc' := 159) rfl dX1_all_158 rfl (ihN rfl) rfl ?_
  refine bobj (pc' := 161) rfl dX1_all_159 rfl (lkls (n := 6) (by decide) rfl) (ihN rfl) rfl ?_
  refine bthr (pc' := 164) rfl dX1_all_161 rfl (⟨⟨by decide, by decide, by decide⟩, rfl, q236, q237, q135⟩) (trivial) (ihN rfl) rfl ?_
  refine bplain (pc' := 165) rfl dX1_all_164 rfl (ihN rfl) rfl ?_
  refine bplain (pc' := 166) rfl dX1_all_165 rfl (ihN rfl) rfl ?_
  refine bplain (pc' := 167) rfl dX1_all_166 rfl (ihN rfl) rfl ?_
  refine bcall (pc' := 172) rfl dX1_all_167 rfl (trivial) (⟨16, ⟨⟨by decide, by decide⟩, rfl, rfl, rfl⟩, rfl, rfl, by decide⟩) (ihN rfl) rfl ?_
  refine bcall (pc' := 177) rfl dX1_all_172 rfl (trivial) (⟨17, ⟨⟨by decide, by decide⟩, rfl, rfl, rfl⟩, rfl, rfl, by decide⟩) (ihN rfl) rfl ?_
  refine bcall (pc' := 182) rfl dX1_all_177 rfl (trivial) (⟨18, ⟨⟨by decide, by decide⟩, rfl, rfl, rfl⟩, rfl, rfl, by decide⟩) (ihN rfl) rfl ?_
  refine bcall (pc' := 185) rfl dX1_all_182 rfl (trivial) (lci mt_X1_init ⟨by decide, by decide⟩ mok_X1_init rfl rfl rfl ln_96 q247 rfl (Or.inl q246)) (ihN rfl) rfl ?_
  refine bcall (pc' := 188) rfl dX1_all_185 rfl (trivial) (lcs (l := q276) mt_X1_puts ⟨by decide, by decide⟩ mok_X1_puts rfl ln_97 (Or.inl q275)) (ihN rfl) rfl ?_
  refine bplain (pc' := 189) rfl dX1_all_188 rfl (ihN rfl) rfl ?_
  refine bobj (pc' := 191) rfl dX1_all_189 rfl (lkls (n := 7) (by decide) rfl) (ihN rfl) rfl ?_
  refine bthr (pc' := 194) rfl dX1_all_191 rfl (⟨⟨by decide, by decide, by decide⟩, rfl, q236, q237, q135⟩) (trivial) (ihN rfl) rfl ?_
  refine bplain (pc' := 195) rfl dX1_all_194 rfl (ihN rfl) rfl ?_
  refine bplain (pc' := 197) rfl dX1_all_195 rfl (ihN rfl) rfl ?_
  refine bplain (pc' := 198) rfl dX1_all_197 rfl (ihN rfl) rfl ?_
  refine bcall (pc' := 203) rfl dX1_all_198 rfl (trivial) (⟨19, ⟨⟨by decide, by decide⟩, rfl, rfl, rfl⟩, rfl, rfl, by decide⟩) (ihN rfl) rfl ?_
  refine bplain (pc' := 204) rfl dX1_all_203 rfl (ihN rfl) rfl ?_
  refine bplain (pc' := 205) rfl dX1_all_204 rfl (ihN rfl) rfl ?_
  refine bcall (pc' := 208) rfl dX1_all_205 rfl (trivial) (lci mt_X1_init ⟨by decide, by decide⟩ mok_X1_init rfl rfl rfl ln_96 q247 rfl (Or.inl q246)) (ihN rfl) rfl ?_
  refine bcall (pc' := 211) rfl dX1_all_208 rfl (trivial) (lcs (l := q276) mt_X1_puts ⟨by decide, by decide⟩ mok_X1_puts rfl ln_97 (Or.inl q275)) (ihN rfl) rfl ?_
  refine bplain (pc' := 212) rfl dX1_all_211 rfl (ihN rfl) rfl ?_
  refine bobj (pc' := 214) rfl dX1_all_212 rfl (lkls (n := 8) (by decide) rfl) (ihN rfl) rfl ?_
  refine bthr (pc' := 217) rfl dX1_all_214 rfl (⟨⟨by decide, by decide, by decide⟩, rfl, q236, q237, q135⟩) (trivial) (ihN rfl) rfl ?_
  refine bplain (pc' := 218) rfl dX1_all_217 rfl (ihN rfl) rfl ?_
  refine bplain (pc' := 220) rfl dX1_all_218 rfl (ihN rfl) rfl ?_
  refine bplain (pc' := 222) rfl dX1_all_220 rfl (ihN rfl) rfl ?_
  refine bcall (pc' := 227) rfl dX1_all_222 rfl (trivial) (⟨20, ⟨⟨by decide, by decide⟩, rfl, rfl, rfl⟩, rfl, rfl, by decide⟩) (ihN rfl) rfl ?_
  refine bplain (pc' := 228) rfl dX1_all_227 rfl (ihN rfl) rfl ?_
  refine bplain (pc' := 229) rfl dX1_all_228 rfl (ihN rfl) rfl ?_
  refine bcall (pc' := 232) rfl dX1_all_229 rfl (trivial) (lci mt_X1_init ⟨by decide, by decide⟩ mok_X1_init rfl rfl rfl ln_96 q247 rfl (Or.inl q246)) (ihN rfl) rfl ?_
  refine bcall (pc' := 235) rfl dX1_all_232 rfl (trivial) (lcs (l := q276) mt_X1_puts ⟨by decide, by decide⟩ mok_X1_puts rfl ln_97 (Or.inl q275)) (ihN rfl) rfl ?_
  refine bplain (pc' := 236) rfl dX1_all_235 rfl (ihN rfl) rfl ?_
  refine bobj (pc' := 238) rfl dX1_all_236 rfl (lkls (n := 9) (by decide) rfl) (ihN rfl) rfl ?_
  refine bthr (pc' := 241) rfl dX1_all_238 rfl (⟨⟨by decide, by decide, by decide⟩, rfl, q236, q237, q135⟩) (trivial) (ihN rfl) rfl ?_
  refine bplain (pc' := 242) rfl dX1_all_241 rfl (ihN rfl) rfl ?_
  refine bplain (pc' := 244) rfl dX1_all_242 rfl (ihN rfl) rfl ?_
  refine bplain (pc' := 246) rfl dX1_all_244 rfl (ihN rfl) rfl ?_
  refine bcall (pc' := 251) rfl dX1_all_246 rfl (trivial) (⟨21, ⟨⟨by decide, by decide⟩, rfl, rfl, rfl⟩, rfl, rfl, by decide⟩) (ihN rfl) rfl ?_
  refine bplain (pc' := 252) rfl dX1_all_251 rfl (ihN rfl) rfl ?_
  refine bplain (pc' := 253) rfl dX1_all_252 rfl (ihN rfl) rfl ?_
  refine bcall (pc' := 256) rfl dX1_all_253 rfl (trivial) (lci mt_X1_init ⟨by decide, by decide⟩ mok_X1_init rfl rfl rfl ln_96 q247 rfl (Or.inl q246)) (ihN rfl) rfl ?_
  refine bcall (pc' := 259) rfl dX1_all_256 rfl (trivial) (lcs (l := q276) mt_X1_puts ⟨by decide, by decide⟩ mok_X1_puts rfl ln_97 (Or.inl q275)) (ihN rfl) rfl ?_
  refine bplain (pc' := 260) rfl dX1_all_259 rfl (ihN rfl) rfl ?_
  refine bobj (pc' := 262) rfl dX1_all_260 rfl (lkls (n := 10) (by decide) rfl) (ihN rfl) rfl ?_
  refine bthr (pc' := 265) rfl dX1_all_262 rfl (⟨⟨by decide, by decide, by decide⟩, rfl, q236, q237, q135⟩) (trivial) (ihN rfl) rfl ?_
  refine bplain (pc' := 266) rfl dX1_all_265 rfl (ihN rfl) rfl ?_
  refine bplain (pc' := 268) rfl dX1_all_266 rfl (ihN rfl) rfl ?_
  refine bplain (pc' := 269) rfl dX1_all_268 rfl (ihN rfl) rfl ?_
  refine bcall (pc' := 274) rfl dX1_all_269 rfl (trivial) (⟨22, ⟨⟨by decide, by decide⟩, rfl, rfl, rfl⟩, rfl, rfl, by decide⟩) (ihN rfl) rfl ?_
  refine bcall (pc' := 279) rfl dX1_all_274 rfl (trivial) (⟨23, ⟨⟨by decide, by decide⟩, rfl, rfl, rfl⟩, rfl, rfl, by decide⟩) (ihN rfl) rfl ?_
  refine bcall (pc' := 284) rfl dX1_all_279 rfl (trivial) (⟨24, ⟨⟨by decide, by decide⟩, rfl, rfl, rfl⟩, rfl, rfl, by decide⟩) (ihN rfl) rfl ?_
  refine bcall (pc' := 287) rfl dX1_all_284 rfl (trivial) (lci mt_X1_init ⟨by decide, by decide⟩ mok_X1_init rfl rfl rfl ln_96 q247 rfl (Or.inl q246)) (ihN rfl) rfl ?_
  refine bcall (pc' := 290) rfl dX1_all_287 rfl (trivial) (lcs (l := q276) mt_X1_puts ⟨by decide, by decide⟩ mok_X1_puts rfl ln_97 (Or.inl q275)) (ihN rfl) rfl ?_
  refine bplain (pc' := 291) rfl dX1_all_290 rfl (ihN rfl) rfl ?_
  refine bobj (pc' := 293) rfl dX1_all_291 rfl (lkls (n := 11) (by decide) rfl) (ihN rfl) rfl ?_
  refine bthr (pc' := 296) rfl dX1_all_293 rfl (⟨⟨by decide, by decide, by decide⟩, rfl, q236, q237, q135⟩) (trivial) (ihN rfl) rfl ?_
  refine bplain (pc' := 297) rfl dX1_all_296 rfl (ihN rfl) rfl ?_
  refine bplain (pc' := 299) rfl dX1_all_297 rfl (ihN rfl) rfl ?_
  refine bplain (pc' := 300) rfl dX1_all_299 rfl (ihN rfl) rfl ?_
  refine bcall (pc' := 305) rfl dX1_all_300 rfl (trivial) (⟨25, ⟨⟨by decide, by decide⟩, rfl, rfl, rfl⟩, rfl, rfl, by decide⟩) (ihN rfl) rfl ?_
  refine bcall (pc' := 310) rfl dX1_all_305 rfl (trivial) (⟨26, ⟨⟨by decide, by decide⟩, rfl, rfl, rfl⟩, rfl, rfl, by decide⟩) (ihN rfl) rfl ?_
  refine bcall (pc' := 315) rfl dX1_all_310 rfl (trivial) (⟨27, ⟨⟨by decide, by decide⟩, rfl, rfl, rfl⟩, rfl, rfl, by decide⟩) (ihN rfl) rfl ?_
  refine bcall (pc' := 318) rfl dX1_all_315 rfl (trivial) (lci mt_X1_init ⟨by decide, by decide⟩ mok_X1_init rfl rfl rfl ln_96 q247 rfl (Or.inl q246)) (ihN rfl) rfl ?_
  refine bcall (pc' := 321) rfl dX1_all_318 rfl (trivial) (lcs (l := q276) mt_X1_puts ⟨by decide, by decide⟩ mok_X1_puts rfl ln_97 (Or.inl q275)) (ihN rfl) rfl ?_
  refine bplain (pc' := 322) rfl dX1_all_321 rfl (ihN rfl) rfl ?_
  refine bobj (pc' := 324) rfl dX1_all_322 rfl (lkls (n := 12) (by decide) rfl) (ihN rfl) rfl ?_
  refine bthr (pc' := 327) rfl dX1_all_324 rfl (⟨⟨by decide, by decide, by decide⟩, rfl, q236, q237, q135⟩) (trivial) (ihN rfl) rfl ?_
  refine bplain (pc' := 328) rfl dX1_all_327 rfl (ihN rfl) rfl ?_
  refine bplain (pc' := 330) rfl dX1_all_328 rfl (ihN rfl) rfl ?_
  refine bplain (pc' := 331) rfl dX1_all_330 rfl (ihN rfl) rfl ?_
  refine bcall (pc' := 336) rfl dX1_all_331 rfl (trivial) (⟨28, ⟨⟨by decide, by decide⟩, rfl, rfl, rfl⟩, rfl, rfl, by decide⟩) (ihN rfl) rfl ?_
  refine bplain (pc' := 337) rfl dX1_all_336 rfl (ihN rfl) rfl ?_
  refine bplain (pc' := 338) rfl dX1_all_337 rfl (ihN rfl) rfl ?_
  refine bcall (pc' := 341) rfl dX1_all_338 rfl (trivial) (lci mt_X1_init ⟨by decide, by decide⟩ mok_X1_init rfl rfl rfl ln_96 q247 rfl (Or.inl q246)) (ihN rfl) rfl ?_
  refine bcall (pc' := 344) rfl dX1_all_341 rfl (trivial) (lcs (l := q276) mt_X1_puts ⟨by decide, by decide⟩ mok_X1_puts rfl ln_97 (Or.inl q275)) (ihN rfl) rfl ?_
  refine bplain (pc' := 345) rfl dX1_all_344 rfl (ihN rfl) rfl ?_
  refine bobj (pc' := 347) rfl dX1_all_345 rfl (lkls (n := 13) (by decide) rfl) (ihN rfl) rfl ?_
  refine bthr (pc' := 350) rfl dX1_all_347 rfl (⟨⟨by decide, by decide, by decide⟩, rfl, q236, q237, q135⟩) (trivial) (ihN rfl) rfl ?_
  refine bplain (pc' := 351) rfl dX1_all_350 rfl (ihN rfl) rfl ?_
  refine bplain (pc' := 353) rfl dX1_all_351 rfl (ihN rfl) rfl ?_
  refine bplain (pc' := 354) rfl dX1_all_353 rfl (ihN rfl) rfl ?_
  refine bcall (pc' := 359) rfl dX1_all_354 rfl (trivial) (⟨29, ⟨⟨by decide, by decide⟩, rfl, rfl, rfl⟩, rfl, rfl, by decide⟩) (ihN rfl) rfl ?_
  refine bplain (pc' := 360) rfl dX1_all_359 rfl (ihN rfl) rfl ?_
  refine bplain (pc' := 361) rfl dX1_all_360 rfl (ihN rfl) rfl ?_
  refine bcall (pc' := 364) rfl dX1_all_361 rfl (trivial) (lci mt_X1_init ⟨by decide, by decide⟩ mok_X1_init rfl rfl rfl ln_96 q247 rfl (Or.inl q246)) (ihN rfl) rfl ?_
  refine bcall (pc' := 367) rfl dX1_all_364 rfl (trivial) (lcs (l := q276) mt_X1_puts ⟨by decide, by decide⟩ mok_X1_puts rfl ln_97 (Or.inl q275)) (ihN rfl) rfl ?_
  refine bplain (pc' := 368) rfl dX1_all_367 rfl (ihN rfl) rfl ?_
  refine bret (pc' := 369) rfl dX1_all_368 rfl (⟨_, rfl, Or.inl ⟨_, rfl⟩⟩) (ihN rfl) rfl ?_
  exact trivial
theorem tf_X1_all : ∀ x ∈ tb_X1_all, BOK mt 35 x.1 x.2 := tb_c mt_X1_all bf_X1_all_0 (tb_n)
theorem bf_J18_init_0 : BOKt mt tJ18_init 36 0 b_J18_init_0 := by
  refine bplain (pc' := 1) rfl dJ18_init_0 rfl (ihN rfl) rfl ?_
  refine bcall (pc' := 4) rfl dJ18_init_1 rfl (trivial) (lco rfl ⟨q1035, q193, q194⟩) (ihN rfl) rfl ?_
  refine bret (pc' := 5) rfl dJ18_init_4 rfl (rfl) (ihN rfl) rfl ?_
  exact trivial
theorem tf_J18_init : ∀ x ∈ tb_J18_init, BOK mt 36 x.1 x.2 := tb_c mt_J18_init bf_J18_init_0 (tb_n)
theorem bf_J19_init_0 : BOKt mt tJ19_init 37 0 b_J19_init_0 := by
  refine bplain (pc' := 1) rfl dJ19_init_0 rfl (ihN rfl) rfl ?_
  refine bcall (pc' := 4) rfl dJ19_init_1 rfl (trivial) (lci mt_J18_init ⟨by decide, by decide⟩ mok_J18_init rfl rfl rfl ln_0 q1033 rfl (Or.inl q1032)) (ihN rfl) rfl ?_
  refine bplain (pc' := 5) rfl dJ19_init_4 rfl (ihN rfl) rfl ?_
  refine bplain (pc' := 6) rfl dJ19_init_5 rfl (ihN rfl) rfl ?_
  refine bobj (pc' := 9) rfl dJ19_init_6 rfl (⟨lkf0 q1044 lf_98, lkp0 lp_99⟩) (ihN rfl) rfl ?_
  refine bret (pc' := 10) rfl dJ19_init_9 rfl (rfl) (ihN rfl) rfl ?_
  exact trivial
theorem tf_J19_init : ∀ x ∈ tb_J19_init, BOK mt 37 x.1 x.2 := tb_c mt_J19_init bf_J19_init_0 (tb_n)
theorem bf_J20_init_0 : BOKt mt tJ20_init 38 0 b_J20_init_0 := by
  refine bplain (pc' := 1) rfl dJ20_init_0 rfl (ihN rfl) rfl ?_
  refine bcall (pc' := 4) rfl dJ20_init_1 rfl (trivial) (lci mt_J19_init ⟨by decide, by decide⟩ mok_J19_init rfl rfl rfl ln_0 q1030 rfl (Or.inl q1029)) (ihN rfl) rfl ?_
  refine bplain (pc' := 5) rfl dJ20_init_4 rfl (ihN rfl) rfl ?_
  refine bjmp (tg := 19) (pc' := 8) rfl (by decide) (by decide) rfl dJ20_init_5 rfl (ihN rfl) rfl ?_
  refine bplain (pc' := 9) rfl dJ20_init_8 rfl (ihN rfl) rfl ?_
  refine bplain (pc' := 10) rfl dJ20_init_9 rfl (ihN rfl) rfl ?_
  refine bobj (pc' := 13) rfl dJ20_init_10 rfl (⟨"java/lang/Object", by decide, rfl, q1036, q1037⟩) (ihN rfl) rfl ?_
  refine bobj (pc' := 16) rfl dJ20_init_13 rfl (⟨lkf0 q1040 lf_100, lkp0 lp_101⟩) (ihN rfl) rfl ?_
  refine bjmp (tg := 60) (pc' := 19) rfl (by decide) (by decide) rfl dJ20_init_16 rfl (ihN rfl) rfl ?_
  exact trivial
theorem bf_J20_init_19 : BOKt mt tJ20_init 38 19 b_J20_init_19 := by
  refine bplain (pc' := 20) rfl dJ20_init_19 rfl (ihN rfl) rfl ?_
  refine bjmp (tg := 33) (pc' := 23) rfl (by decide) (by decide) rfl dJ20_init_20 rfl (ihN rfl) rfl ?_
  refine bplain (pc' := 24) rfl dJ20_init_23 rfl (ihN rfl) rfl ?_
  refine bobj (pc' := 27) rfl dJ20_init_24 rfl (lkg2 (j := 0) (by decide) q1038 rfl) (ihN rfl) rfl ?_
  refine bobj (pc' := 30) rfl dJ20_init_27 rfl (⟨lkf0 q1040 lf_100, lkp0 lp_101⟩) (ihN rfl) rfl ?_
  refine bjmp (tg := 60) (pc' := 33) rfl (by decide) (by decide) rfl dJ20_init_30 rfl (ihN rfl) rfl ?_
  exact trivial
theorem bf_J20_init_33 : BOKt mt tJ20_init 38 33 b_J20_init_33 := by
  refine bthr (pc' := 36) rfl dJ20_init_33 rfl (trivial) (trivial) (ihN rfl) rfl ?_
  refine bplain (pc' := 37) rfl dJ20_init_36 rfl (ihN rfl) rfl ?_
  refine bthr (pc' := 40) rfl dJ20_init_37 rfl (trivial) (trivial) (ihN rfl) rfl ?_
  refine bplain (pc' := 41) rfl dJ20_init_40 rfl (ihN rfl) rfl ?_
  refine bcall (pc' := 44) rfl dJ20_init_41 rfl (trivial) (trivial) (ihN rfl) rfl ?_
  refine bobj (pc' := 46) rfl dJ20_init_44 rfl (trivial) (ihN rfl) rfl ?_
  refine bcall (pc' := 49) rfl dJ20_init_46 rfl (trivial) (trivial) (ihN rfl) rfl ?_
  refine bplain (pc' := 50) rfl dJ20_init_49 rfl (ihN rfl) rfl ?_
  refine bcall (pc' := 53) rfl dJ20_init_50 rfl (trivial) (trivial) (ihN rfl) rfl ?_
  refine bcall (pc' := 56) rfl dJ20_init_53 rfl (trivial) (trivial) (ihN rfl) rfl ?_
  refine bcall (pc' := 59) rfl dJ20_init_56 rfl (trivial) (trivial) (ihN rfl) rfl ?_
  refine bplain (pc' := 60) rfl dJ20_init_59 rfl (ihN rfl) rfl ?_
  exact trivial
theorem bf_J20_init_60 : BOKt mt tJ20_init 38 60 b_J20_init_60 := by
  refine bnop1 ?_
  refine bret (pc' := 61) rfl dJ20_init_60 rfl (rfl) (ihN rfl) rfl ?_
  exact trivial
theorem tf_J20_init : ∀ x ∈ tb_J20_init, BOK mt 38 x.1 x.2 := tb_c mt_J20_init bf_J20_init_0 (tb_c mt_J20_init bf_J20_init_19 (tb_c mt_J20_init bf_J20_init_33 (tb_c mt_J20_init bf_J20_init_60 (tb_n))))
theorem bf_J21_init_0 : BOKt mt tJ21_init 39 0 b_J21_init_0 := by
  refine bplain (pc' := 1) rfl dJ21_init_0 rfl (ihN rfl) rfl ?_
  refine bcall (pc' := 4) rfl dJ21_init_1 rfl (trivial) (lci mt_J18_init ⟨by decide, by decide⟩ mok_J18_init rfl rfl rfl ln_0 q1033 rfl (Or.inl q1060)) (ihN rfl) rfl ?_
  refine bplain (pc' := 5) rfl dJ21_init_4 rfl (ihN rfl) rfl ?_
  refine bplain (pc' := 7) rfl dJ21_init_5 rfl (ihN rfl) rfl ?_
  refine bobj (pc' := 10) rfl dJ21_init_7 rfl (⟨"java/lang/Object", by decide, rfl, q1061, q1037⟩) (ihN rfl) rfl ?_
  refine bobj (pc' := 13) rfl dJ21_init_10 rfl (⟨lkf0 q1062 lf_102, lkp0 lp_103⟩) (ihN rfl) rfl ?_
  refine bret (pc' := 14) rfl dJ21_init_13 rfl (rfl) (ihN rfl) rfl ?_
  exact trivial
theorem tf_J21_init : ∀ x ∈ tb_J21_init, BOK mt 39 x.1 x.2 := tb_c mt_J21_init bf_J21_init_0 (tb_n)
theorem bf_X2_init_0 : BOKt mt tX2_init 40 0 b_X2_init_0 := by
  refine bplain (pc' := 1) rfl dX2_init_0 rfl (ihN rfl) rfl ?_
  refine bplain (pc' := 2) rfl dX2_init_1 rfl (ihN rfl) rfl ?_
  refine bobj (pc' := 5) rfl dX2_init_2 rfl (⟨lkf0 q1090 lf_104, lkp1 rfl lp_105⟩) (ihN rfl) rfl ?_
  refine bplain (pc' := 6) rfl dX2_init_5 rfl (ihN rfl) rfl ?_
  refine bcall (pc' := 9) rfl dX2_init_6 rfl (trivial) (lco rfl ⟨q1080, q193, q194⟩) (ihN rfl) rfl ?_
  refine bplain (pc' := 10) rfl dX2_init_9 rfl (ihN rfl) rfl ?_
  refine bplain (pc' := 13) rfl dX2_init_10 rfl (ihN rfl) rfl ?_
  refine bobj (pc' := 15) rfl dX2_init_13 rfl (⟨by decide, rfl, q1108⟩) (ihN rfl) rfl ?_
  refine bobj (pc' := 18) rfl dX2_init_15 rfl (⟨lkf0 q1081 lf_106, lkp1 rfl lp_107⟩) (ihN rfl) rfl ?_
  refine bplain (pc' := 19) rfl dX2_init_18 rfl (ihN rfl) rfl ?_
  refine bplain (pc' := 22) rfl dX2_init_19 rfl (ihN rfl) rfl ?_
  refine bobj (pc' := 24) rfl dX2_init_22 rfl (⟨by decide, rfl, q1109⟩) (ihN rfl) rfl ?_
  refine bobj (pc' := 27) rfl dX2_init_24 rfl (⟨lkf0 q1083 lf_108, lkp1 rfl lp_109⟩) (ihN rfl) rfl ?_
  refine bret (pc' := 28) rfl dX2_init_27 rfl (rfl) (ihN rfl) rfl ?_
  exact trivial
theorem tf_X2_init : ∀ x ∈ tb_X2_init, BOK mt 40 x.1 x.2 := tb_c mt_X2_init bf_X2_init_0 (tb_n)
theorem bf_X0_init_0 : BOKt mt tX0_init 41 0 b_X0_init_0 := by
  refine bplain (pc' := 1) rfl dX0_init_0 rfl (ihN rfl) rfl ?_
  refine bcall (pc' := 4) rfl dX0_init_1 rfl (trivial) (lco rfl ⟨q192, q193, q194⟩) (ihN rfl) rfl ?_
  refine bplain (pc' := 5) rfl dX0_init_4 rfl (ihN rfl) rfl ?_
  refine bcall (pc' := 8) rfl dX0_init_5 rfl (trivial) (lcs (l := q196) mt_X1_all ⟨by decide, by decide⟩ mok_X1_all rfl ln_110 (Or.inl q195)) (ihN rfl) rfl ?_
  refine bobj (pc' := 11) rfl dX0_init_8 rfl (⟨lkf0 q1111 lf_111, lkp1 rfl lp_112⟩) (ihN rfl) rfl ?_
  refine bplain (pc' := 12) rfl dX0_init_11 rfl (ihN rfl) rfl ?_
  refine bplain (pc' := 14) rfl dX0_init_12 rfl (ihN rfl) rfl ?_
  refine bobj (pc' := 17) rfl dX0_init_14 rfl (⟨"StrideTurns$Row", by decide, rfl, q1022, q1023⟩) (ihN rfl) rfl ?_
  refine bobj (pc' := 20) rfl dX0_init_17 rfl (⟨lkf0 q1112 lf_113, lkp1 rfl lp_114⟩) (ihN rfl) rfl ?_
  refine bplain (pc' := 21) rfl dX0_init_20 rfl (ihN rfl) rfl ?_
  refine bthr (pc' := 24) rfl dX0_init_21 rfl (⟨⟨by decide, by decide, by decide⟩, rfl, q1024, q1025, q158⟩) (trivial) (ihN rfl) rfl ?_
  refine bplain (pc' := 25) rfl dX0_init_24 rfl (ihN rfl) rfl ?_
  refine bplain (pc' := 26) rfl dX0_init_25 rfl (ihN rfl) rfl ?_
  refine bcall (pc' := 29) rfl dX0_init_26 rfl (trivial) (lci mt_J20_init ⟨by decide, by decide⟩ mok_J20_init rfl rfl rfl ln_115 q1027 rfl (Or.inl q1026)) (ihN rfl) rfl ?_
  refine bobj (pc' := 32) rfl dX0_init_29 rfl (⟨lkf0 q1115 lf_116, lkp1 rfl lp_117⟩) (ihN rfl) rfl ?_
  refine bplain (pc' := 33) rfl dX0_init_32 rfl (ihN rfl) rfl ?_
  refine bthr (pc' := 36) rfl dX0_init_33 rfl (⟨⟨by decide, by decide, by decide⟩, rfl, q1055, q1056, q159⟩) (trivial) (ihN rfl) rfl ?_
  refine bplain (pc' := 37) rfl dX0_init_36 rfl (ihN rfl) rfl ?_
  refine bcall (pc' := 40) rfl dX0_init_37 rfl (trivial) (lci mt_J21_init ⟨by decide, by decide⟩ mok_J21_init rfl rfl rfl ln_0 q1058 rfl (Or.inl q1057)) (ihN rfl) rfl ?_
  refine bobj (pc' := 43) rfl dX0_init_40 rfl (⟨lkf0 q1119 lf_118, lkp1 rfl lp_119⟩) (ihN rfl) rfl ?_
  refine bplain (pc' := 44) rfl dX0_init_43 rfl (ihN rfl) rfl ?_
  refine bplain (pc' := 45) rfl dX0_init_44 rfl (ihN rfl) rfl ?_
  refine bobj (pc' := 47) rfl dX0_init_45 rfl (⟨by decide, rfl, q274⟩) (ihN rfl) rfl ?_
  refine bobj (pc' := 50) rfl dX0_init_47 rfl (⟨lkf0 q1120 lf_120, lkp1 rfl lp_121⟩) (ihN rfl) rfl ?_
  refine bplain (pc' := 51) rfl dX0_init_50 rfl (ihN rfl) rfl ?_
  refine bplain (pc' := 54) rfl dX0_init_51 rfl (ihN rfl) rfl ?_
  refine bobj (pc' := 56) rfl dX0_init_54 rfl (⟨by decide, rfl, q1106⟩) (ihN rfl) rfl ?_
  refine bobj (pc' := 59) rfl dX0_init_56 rfl (⟨lkf0 q1122 lf_122, lkp1 rfl lp_123⟩) (ihN rfl) rfl ?_
  refine bplain (pc' := 60) rfl dX0_init_59 rfl (ihN rfl) rfl ?_
  refine bplain (pc' := 62) rfl dX0_init_60 rfl (ihN rfl) rfl ?_
  refine bobj (pc' := 64) rfl dX0_init_62 rfl (⟨by decide, rfl, q1106⟩) (ihN rfl) rfl ?_
  refine bobj (pc' := 67) rfl dX0_init_64 rfl (⟨lkf0 q1123 lf_124, lkp1 rfl lp_125⟩) (ihN rfl) rfl ?_
  refine bplain (pc' := 68) rfl dX0_init_67 rfl (ihN rfl) rfl ?_
  refine bplain (pc' := 70) rfl dX0_init_68 rfl (ihN rfl) rfl ?_
  refine bobj (pc' := 72) rfl dX0_init_70 rfl (⟨by decide, rfl, q1107⟩) (ihN rfl) rfl ?_
  refine bobj (pc' := 75) rfl dX0_init_72 rfl (⟨lkf0 q1124 lf_126, lkp1 rfl lp_127⟩) (ihN rfl) rfl ?_
  refine bplain (pc' := 76) rfl dX0_init_75 rfl (ihN rfl) rfl ?_
  refine bplain (pc' := 77) rfl dX0_init_76 rfl (ihN rfl) rfl ?_
  refine bobj (pc' := 79) rfl dX0_init_77 rfl (⟨by decide, rfl, q1107⟩) (ihN rfl) rfl ?_
  refine bobj (pc' := 82) rfl dX0_init_79 rfl (⟨lkf0 q1126 lf_128, lkp1 rfl lp_129⟩) (ihN rfl) rfl ?_
  refine bplain (pc' := 83) rfl dX0_init_82 rfl (ihN rfl) rfl ?_
  refine bplain (pc' := 85) rfl dX0_init_83 rfl (ihN rfl) rfl ?_
  refine bobj (pc' := 88) rfl dX0_init_85 rfl (⟨"StrideTurns$Turn", by decide, rfl, q1074, q1075⟩) (ihN rfl) rfl ?_
  refine bplain (pc' := 89) rfl dX0_init_88 rfl (ihN rfl) rfl ?_
  refine bplain (pc' := 90) rfl dX0_init_89 rfl (ihN rfl) rfl ?_
  refine bthr (pc' := 93) rfl dX0_init_90 rfl (⟨⟨by decide, by decide, by decide⟩, rfl, q1074, q1076, q160⟩) (trivial) (ihN rfl) rfl ?_
  refine bplain (pc' := 94) rfl dX0_init_93 rfl (ihN rfl) rfl ?_
  refine bplain (pc' := 95) rfl dX0_init_94 rfl (ihN rfl) rfl ?_
  refine bcall (pc' := 98) rfl dX0_init_95 rfl (trivial) (lci mt_X2_init ⟨by decide, by decide⟩ mok_X2_init rfl rfl rfl ln_130 q1078 rfl (Or.inr ⟨"StrideTurns", q1077⟩)) (ihN rfl) rfl ?_
  refine bplain (pc' := 99) rfl dX0_init_98 rfl (ihN rfl) rfl ?_
  refine bplain (pc' := 100) rfl dX0_init_99 rfl (ihN rfl) rfl ?_
  refine bplain (pc' := 101) rfl dX0_init_100 rfl (ihN rfl) rfl ?_
  refine bthr (pc' := 104) rfl dX0_init_101 rfl (⟨⟨by decide, by decide, by decide⟩, rfl, q1074, q1076, q160⟩) (trivial) (ihN rfl) rfl ?_
  refine bplain (pc' := 105) rfl dX0_init_104 rfl (ihN rfl) rfl ?_
  refine bplain (pc' := 106) rfl dX0_init_105 rfl (ihN rfl) rfl ?_
  refine bcall (pc' := 109) rfl dX0_init_106 rfl (trivial) (lci mt_X2_init ⟨by decide, by decide⟩ mok_X2_init rfl rfl rfl ln_130 q1078 rfl (Or.inr ⟨"StrideTurns", q1077⟩)) (ihN rfl) rfl ?_
  refine bplain (pc' := 110) rfl dX0_init_109 rfl (ihN rfl) rfl ?_
  refine bplain (pc' := 111) rfl dX0_init_110 rfl (ihN rfl) rfl ?_
  refine bplain (pc' := 112) rfl dX0_init_111 rfl (ihN rfl) rfl ?_
  refine bthr (pc' := 115) rfl dX0_init_112 rfl (⟨⟨by decide, by decide, by decide⟩, rfl, q1074, q1076, q160⟩) (trivial) (ihN rfl) rfl ?_
  refine bplain (pc' := 116) rfl dX0_init_115 rfl (ihN rfl) rfl ?_
  refine bplain (pc' := 117) rfl dX0_init_116 rfl (ihN rfl) rfl ?_
  refine bcall (pc' := 120) rfl dX0_init_117 rfl (trivial) (lci mt_X2_init ⟨by decide, by decide⟩ mok_X2_init rfl rfl rfl ln_130 q1078 rfl (Or.inr ⟨"StrideTurns", q1077⟩)) (ihN rfl) rfl ?_
  refine bplain (pc' := 121) rfl dX0_init_120 rfl (ihN rfl) rfl ?_
  refine bplain (pc' := 122) rfl dX0_init_121 rfl (ihN rfl) rfl ?_
  refine bplain (pc' := 123) rfl dX0_init_122 rfl (ihN rfl) rfl ?_
  refine bthr (pc' := 126) rfl dX0_init_123 rfl (⟨⟨by decide, by decide, by decide⟩, rfl, q1074, q1076, q160⟩) (trivial) (ihN rfl) rfl ?_
  refine bplain (pc' := 127) rfl dX0_init_126 rfl (ihN rfl) rfl ?_
  refine bplain (pc' := 128) rfl dX0_init_127 rfl (ihN rfl) rfl ?_
  refine bcall (pc' := 131) rfl dX0_init_128 rfl (trivial) (lci mt_X2_init ⟨by decide, by decide⟩ mok_X2_init rfl rfl rfl ln_130 q1078 rfl (Or.inr ⟨"StrideTurns", q1077⟩)) (ihN rfl) rfl ?_
  refine bplain (pc' := 132) rfl dX0_init_131 rfl (ihN rfl) rfl ?_
  refine bplain (pc' := 133) rfl dX0_init_132 rfl (ihN rfl) rfl ?_
  refine bplain (pc' := 134) rfl dX0_init_133 rfl (ihN rfl) rfl ?_
  refine bthr (pc' := 137) rfl dX0_init_134 rfl (⟨⟨by decide, by decide, by decide⟩, rfl, q1074, q1076, q160⟩) (trivial) (ihN rfl) rfl ?_
  refine bplain (pc' := 138) rfl dX0_init_137 rfl (ihN rfl) rfl ?_
  refine bplain (pc' := 139) rfl dX0_init_138 rfl (ihN rfl) rfl ?_
  refine bcall (pc' := 142) rfl dX0_init_139 rfl (trivial) (lci mt_X2_init ⟨by decide, by decide⟩ mok_X2_init rfl rfl rfl ln_130 q1078 rfl (Or.inr ⟨"StrideTurns", q1077⟩)) (ihN rfl) rfl ?_
  refine bplain (pc' := 143) rfl dX0_init_142 rfl (ihN rfl) rfl ?_
  refine bplain (pc' := 144) rfl dX0_init_143 rfl (ihN rfl) rfl ?_
  refine bplain (pc' := 145) rfl dX0_init_144 rfl (ihN rfl) rfl ?_
  refine bthr (pc' := 148) rfl dX0_init_145 rfl (⟨⟨by decide, by decide, by decide⟩, rfl, q1074, q1076, q160⟩) (trivial) (ihN rfl) rfl ?_
  refine bplain (pc' := 149) rfl dX0_init_148 rfl (ihN rfl) rfl ?_
  refine bplain (pc' := 150) rfl dX0_init_149 rfl (ihN rfl) rfl ?_
  refine bcall (pc' := 153) rfl dX0_init_150 rfl (trivial) (lci mt_X2_init ⟨by decide, by decide⟩ mok_X2_init rfl rfl rfl ln_130 q1078 rfl (Or.inr ⟨"StrideTurns", q1077⟩)) (ihN rfl) rfl ?_
  refine bplain (pc' := 154) rfl dX0_init_153 rfl (ihN rfl) rfl ?_
  refine bplain (pc' := 155) rfl dX0_init_154 rfl (ihN rfl) rfl ?_
  refine bplain (pc' := 157) rfl dX0_init_155 rfl (ihN rfl) rfl ?_
  refine bthr (pc' := 160) rfl dX0_init_157 rfl (⟨⟨by decide, by decide, by decide⟩, rfl, q1074, q1076, q160⟩) (trivial) (ihN rfl) rfl ?_
  refine bplain (pc' := 161) rfl dX0_init_160 rfl (ihN rfl) rfl ?_
  refine bplain (pc' := 162) rfl dX0_init_161 rfl (ihN rfl) rfl ?_
  refine bcall (pc' := 165) rfl dX0_init_162 rfl (trivial) (lci mt_X2_init ⟨by decide, by decide⟩ mok_X2_init rfl rfl rfl ln_130 q1078 rfl (Or.inr ⟨"StrideTurns", q1077⟩)) (ihN rfl) rfl ?_
  refine bplain (pc' := 166) rfl dX0_init_165 rfl (ihN rfl) rfl ?_
  refine bplain (pc' := 167) rfl dX0_init_166 rfl (ihN rfl) rfl ?_
  refine bplain (pc' := 169) rfl dX0_init_167 rfl (ihN rfl) rfl ?_
  refine bthr (pc' := 172) rfl dX0_init_169 rfl (⟨⟨by decide, by decide, by decide⟩, rfl, q1074, q1076, q160⟩) (trivial) (ihN rfl) rfl ?_
  refine bplain (pc' := 173) rfl dX0_init_172 rfl (ihN rfl) rfl ?_
  refine bplain (pc' := 174) rfl dX0_init_173 rfl (ihN rfl) rfl ?_
  refine bcall (pc' := 177) rfl dX0_init_174 rfl (trivial) (lci mt_X2_init ⟨by decide, by decide⟩ mok_X2_init rfl rfl rfl ln_130 q1078 rfl (Or.inr ⟨"StrideTurns", q1077⟩)) (ihN rfl) rfl ?_
  refine bplain (pc' := 178) rfl dX0_init_177 rfl (ihN rfl) rfl ?_
  refine bplain (pc' := 179) rfl dX0_init_178 rfl (ihN rfl) rfl ?_
  refine bplain (pc' := 181) rfl dX0_init_179 rfl (ihN rfl) rfl ?_
  refine bthr (pc' := 184) rfl dX0_init_181 rfl (⟨⟨by decide, by decide, by decide⟩, rfl, q1074, q1076, q160⟩) (trivial) (ihN rfl) rfl ?_
  refine bplain (pc' := 185) rfl dX0_init_184 rfl (ihN rfl) rfl ?_
  refine bplain (pc' := 186) rfl dX0_init_185 rfl (ihN rfl) rfl ?_
  refine bcall (pc' := 189) rfl dX0_init_186 rfl (trivial) (lci mt_X2_init ⟨by decide, by decide⟩ mok_X2_init rfl rfl rfl ln_130 q1078 rfl (Or.inr ⟨"StrideTurns", q1077⟩)) (ihN rfl) rfl ?_
  refine bplain (pc' := 190) rfl dX0_init_189 rfl (ihN rfl) rfl ?_
  refine bplain (pc' := 191) rfl dX0_init_190 rfl (ihN rfl) rfl ?_
  refine bplain (pc' := 193) rfl dX0_init_191 rfl (ihN rfl) rfl ?_
  refine bthr (pc' := 196) rfl dX0_init_193 rfl (⟨⟨by decide, by decide, by decide⟩, rfl, q1074, q1076, q160⟩) (trivial) (ihN rfl) rfl ?_
  refine bplain (pc' := 197) rfl dX0_init_196 rfl (ihN rfl) rfl ?_
  refine bplain (pc' := 198) rfl dX0_init_197 rfl (ihN rfl) rfl ?_
  refine bcall (pc' := 201) rfl dX0_init_198 rfl (trivial) (lci mt_X2_init ⟨by decide, by decide⟩ mok_X2_init rfl rfl rfl ln_130 q1078 rfl (Or.inr ⟨"StrideTurns", q1077⟩)) (ihN rfl) rfl ?_
  refine bplain (pc' := 202) rfl dX0_init_201 rfl (ihN rfl) rfl ?_
  refine bobj (pc' := 205) rfl dX0_init_202 rfl (⟨lkf0 q1128 lf_131, lkp1 rfl lp_132⟩) (ihN rfl) rfl ?_
  refine bplain (pc' := 206) rfl dX0_init_205 rfl (ihN rfl) rfl ?_
  refine bplain (pc' := 208) rfl dX0_init_206 rfl (ihN rfl) rfl ?_
  refine bobj (pc' := 210) rfl dX0_init_208 rfl (⟨by decide, rfl, q1107⟩) (ihN rfl) rfl ?_
  refine bobj (pc' := 213) rfl dX0_init_210 rfl (⟨lkf0 q1129 lf_133, lkp1 rfl lp_134⟩) (ihN rfl) rfl ?_
  refine bplain (pc' := 214) rfl dX0_init_213 rfl (ihN rfl) rfl ?_
  refine bplain (pc' := 215) rfl dX0_init_214 rfl (ihN rfl) rfl ?_
  refine bobj (pc' := 217) rfl dX0_init_215 rfl (⟨by decide, rfl, q1107⟩) (ihN rfl) rfl ?_
  refine bobj (pc' := 220) rfl dX0_init_217 rfl (⟨lkf0 q1132 lf_135, lkp1 rfl lp_136⟩) (ihN rfl) rfl ?_
  refine bplain (pc' := 221) rfl dX0_init_220 rfl (ihN rfl) rfl ?_
  refine bplain (pc' := 223) rfl dX0_init_221 rfl (ihN rfl) rfl ?_
  refine bobj (pc' := 225) rfl dX0_init_223 rfl (⟨by decide, rfl, q1107⟩) (ihN rfl) rfl ?_
  refine bobj (pc' := 228) rfl dX0_init_225 rfl (⟨lkf0 q1133 lf_137, lkp1 rfl lp_138⟩) (ihN rfl) rfl ?_
  refine bplain (pc' := 229) rfl dX0_init_228 rfl (ihN rfl) rfl ?_
  refine bplain (pc' := 232) rfl dX0_init_229 rfl (ihN rfl) rfl ?_
  refine bobj (pc' := 234) rfl dX0_init_232 rfl (⟨by decide, rfl, q1108⟩) (ihN rfl) rfl ?_
  refine bobj (pc' := 237) rfl dX0_init_234 rfl (⟨lkf0 q1136 lf_139, lkp1 rfl lp_140⟩) (ihN rfl) rfl ?_
  refine bplain (pc' := 238) rfl dX0_init_237 rfl (ihN rfl) rfl ?_
  refine bplain (pc' := 241) rfl dX0_init_238 rfl (ihN rfl) rfl ?_
  refine bobj (pc' := 243) rfl dX0_init_241 rfl (⟨by decide, rfl, q1107⟩) (ihN rfl) rfl ?_
  refine bobj (pc' := 246) rfl dX0_init_243 rfl (⟨lkf0 q1137 lf_141, lkp1 rfl lp_142⟩) (ihN rfl) rfl ?_
  refine bplain (pc' := 247) rfl dX0_init_246 rfl (ihN rfl) rfl ?_
  refine bplain (pc' := 250) rfl dX0_init_247 rfl (ihN rfl) rfl ?_
  refine bobj (pc' := 252) rfl dX0_init_250 rfl (⟨by decide, rfl, q1108⟩) (ihN rfl) rfl ?_
  refine bobj (pc' := 255) rfl dX0_init_252 rfl (⟨lkf0 q1138 lf_143, lkp1 rfl lp_144⟩) (ihN rfl) rfl ?_
  refine bret (pc' := 256) rfl dX0_init_255 rfl (rfl) (ihN rfl) rfl ?_
  exact trivial
theorem tf_X0_init : ∀ x ∈ tb_X0_init, BOK mt 41 x.1 x.2 := tb_c mt_X0_init bf_X0_init_0 (tb_n)
theorem bf_X3_init_0 : BOKt mt tX3_init 42 0 b_X3_init_0 := by
  refine bplain (pc' := 1) rfl dX3_init_0 rfl (ihN rfl) rfl ?_
  refine bcall (pc' := 4) rfl dX3_init_1 rfl (trivial) (lco rfl ⟨q2596, q193, q194⟩) (ihN rfl) rfl ?_
  refine bplain (pc' := 5) rfl dX3_init_4 rfl (ihN rfl) rfl ?_
  refine bplain (pc' := 7) rfl dX3_init_5 rfl (ihN rfl) rfl ?_
  refine bobj (pc' := 9) rfl dX3_init_7 rfl (⟨by decide, rfl, q1107⟩) (ihN rfl) rfl ?_
  refine bobj (pc' := 12) rfl dX3_init_9 rfl (⟨lkf0 q2597 lf_145, lkp1 rfl lp_146⟩) (ihN rfl) rfl ?_
  refine bplain (pc' := 13) rfl dX3_init_12 rfl (ihN rfl) rfl ?_
  refine bplain (pc' := 15) rfl dX3_init_13 rfl (ihN rfl) rfl ?_
  refine bobj (pc' := 17) rfl dX3_init_15 rfl (⟨by decide, rfl, q1107⟩) (ihN rfl) rfl ?_
  refine bobj (pc' := 20) rfl dX3_init_17 rfl (⟨lkf0 q2598 lf_147, lkp1 rfl lp_148⟩) (ihN rfl) rfl ?_
  refine bplain (pc' := 21) rfl dX3_init_20 rfl (ihN rfl) rfl ?_
  refine bplain (pc' := 24) rfl dX3_init_21 rfl (ihN rfl) rfl ?_
  refine bobj (pc' := 26) rfl dX3_init_24 rfl (⟨by decide, rfl, q1108⟩) (ihN rfl) rfl ?_
  refine bobj (pc' := 29) rfl dX3_init_26 rfl (⟨lkf0 q2599 lf_149, lkp1 rfl lp_150⟩) (ihN rfl) rfl ?_
  refine bplain (pc' := 30) rfl dX3_init_29 rfl (ihN rfl) rfl ?_
  refine bplain (pc' := 33) rfl dX3_init_30 rfl (ihN rfl) rfl ?_
  refine bobj (pc' := 35) rfl dX3_init_33 rfl (⟨by decide, rfl, q1107⟩) (ihN rfl) rfl ?_
  refine bobj (pc' := 38) rfl dX3_init_35 rfl (⟨lkf0 q2600 lf_151, lkp1 rfl lp_152⟩) (ihN rfl) rfl ?_
  refine bplain (pc' := 39) rfl dX3_init_38 rfl (ihN rfl) rfl ?_
  refine bplain (pc' := 41) rfl dX3_init_39 rfl (ihN rfl) rfl ?_
  refine bobj (pc' := 43) rfl dX3_init_41 rfl (⟨by decide, rfl, q1108⟩) (ihN rfl) rfl ?_
  refine bobj (pc' := 46) rfl dX3_init_43 rfl (⟨lkf0 q2602 lf_153, lkp1 rfl lp_154⟩) (ihN rfl) rfl ?_
  refine bplain (pc' := 47) rfl dX3_init_46 rfl (ihN rfl) rfl ?_
  refine bplain (pc' := 48) rfl dX3_init_47 rfl (ihN rfl) rfl ?_
  refine bobj (pc' := 50) rfl dX3_init_48 rfl (⟨by decide, rfl, q1107⟩) (ihN rfl) rfl ?_
  refine bobj (pc' := 53) rfl dX3_init_50 rfl (⟨lkf0 q2605 lf_155, lkp1 rfl lp_156⟩) (ihN rfl) rfl ?_
  refine bplain (pc' := 54) rfl dX3_init_53 rfl (ihN rfl) rfl ?_
  refine bplain (pc' := 55) rfl dX3_init_54 rfl (ihN rfl) rfl ?_
  refine bobj (pc' := 57) rfl dX3_init_55 rfl (⟨by decide, rfl, q1107⟩) (ihN rfl) rfl ?_
  refine bobj (pc' := 60) rfl dX3_init_57 rfl (⟨lkf0 q2606 lf_157, lkp1 rfl lp_158⟩) (ihN rfl) rfl ?_
  refine bplain (pc' := 61) rfl dX3_init_60 rfl (ihN rfl) rfl ?_
  refine bplain (pc' := 62) rfl dX3_init_61 rfl (ihN rfl) rfl ?_
  refine bobj (pc' := 64) rfl dX3_init_62 rfl (⟨by decide, rfl, q1107⟩) (ihN rfl) rfl ?_
  refine bobj (pc' := 67) rfl dX3_init_64 rfl (⟨lkf0 q2607 lf_159, lkp1 rfl lp_160⟩) (ihN rfl) rfl ?_
  refine bplain (pc' := 68) rfl dX3_init_67 rfl (ihN rfl) rfl ?_
  refine bplain (pc' := 69) rfl dX3_init_68 rfl (ihN rfl) rfl ?_
  refine bobj (pc' := 71) rfl dX3_init_69 rfl (⟨by decide, rfl, q1107⟩) (ihN rfl) rfl ?_
  refine bobj (pc' := 74) rfl dX3_init_71 rfl (⟨lkf0 q2608 lf_161, lkp1 rfl lp_162⟩) (ihN rfl) rfl ?_
  refine bplain (pc' := 75) rfl dX3_init_74 rfl (ihN rfl) rfl ?_
  refine bplain (pc' := 76) rfl dX3_init_75 rfl (ihN rfl) rfl ?_
  refine bobj (pc' := 78) rfl dX3_init_76 rfl (⟨by decide, rfl, q1107⟩) (ihN rfl) rfl ?_
  refine bobj (pc' := 81) rfl dX3_init_78 rfl (⟨lkf0 q2609 lf_163, lkp1 rfl lp_164⟩) (ihN rfl) rfl ?_
  refine bplain (pc' := 82) rfl dX3_init_81 rfl (ihN rfl) rfl ?_
  refine bplain (pc' := 84) rfl dX3_init_82 rfl (ihN rfl) rfl ?_
  refine bobj (pc' := 86) rfl dX3_init_84 rfl (⟨by decide, rfl, q1107⟩) (ihN rfl) rfl ?_
  refine bobj (pc' := 89) rfl dX3_init_86 rfl (⟨lkf0 q2610 lf_165, lkp1 rfl lp_166⟩) (ihN rfl) rfl ?_
  refine bplain (pc' := 90) rfl dX3_init_89 rfl (ihN rfl) rfl ?_
  refine bplain (pc' := 92) rfl dX3_init_90 rfl (ihN rfl) rfl ?_
  refine bobj (pc' := 94) rfl dX3_init_92 rfl (⟨by decide, rfl, q1107⟩) (ihN rfl) rfl ?_
  refine bobj (pc' := 97) rfl dX3_init_94 rfl (⟨lkf0 q2611 lf_167, lkp1 rfl lp_168⟩) (ihN rfl) rfl ?_
  refine bplain (pc' := 98) rfl dX3_init_97 rfl (ihN rfl) rfl ?_
  refine bplain (pc' := 100) rfl dX3_init_98 rfl (ihN rfl) rfl ?_
  refine bobj (pc' := 102) rfl dX3_init_100 rfl (⟨by decide, rfl, q1107⟩) (ihN rfl) rfl ?_
  refine bobj (pc' := 105) rfl dX3_init_102 rfl (⟨lkf0 q2612 lf_169, lkp1 rfl lp_170⟩) (ihN rfl) rfl ?_
  refine bplain (pc' := 106) rfl dX3_init_105 rfl (ihN rfl) rfl ?_
  refine bplain (pc' := 108) rfl dX3_init_106 rfl (ihN rfl) rfl ?_
  refine bobj (pc' := 110) rfl dX3_init_108 rfl (⟨by decide, rfl, q1107⟩) (ihN rfl) rfl ?_
  refine bobj (pc' := 113) rfl dX3_init_110 rfl (⟨lkf0 q2613 lf_171, lkp1 rfl lp_172⟩) (ihN rfl) rfl ?_
  refine bplain (pc' := 114) rfl dX3_init_113 rfl (ihN rfl) rfl ?_
  refine bplain (pc' := 116) rfl dX3_init_114 rfl (ihN rfl) rfl ?_
  refine bobj (pc' := 118) rfl dX3_init_116 rfl (⟨by decide, rfl, q1107⟩) (ihN rfl) rfl ?_
  refine bobj (pc' := 121) rfl dX3_init_118 rfl (⟨lkf0 q2614 lf_173, lkp1 rfl lp_174⟩) (ihN rfl) rfl ?_
  refine bplain (pc' := 122) rfl dX3_init_121 rfl (ihN rfl) rfl ?_
  refine bplain (pc' := 123) rfl dX3_init_122 rfl (ihN rfl) rfl ?_
  refine bobj (pc' := 125) rfl dX3_init_123 rfl (⟨by decide, rfl, q1107⟩) (ihN rfl) rfl ?_
  refine bobj (pc' := 128) rfl dX3_init_125 rfl (⟨lkf0 q2616 lf_175, lkp1 rfl lp_176⟩) (ihN rfl) rfl ?_
  refine bplain (pc' := 129) rfl dX3_init_128 rfl (ihN rfl) rfl ?_
  refine bplain (pc' := 131) rfl dX3_init_129 rfl (ihN rfl) rfl ?_
  refine bobj (pc' := 133) rfl dX3_init_131 rfl (⟨by decide, rfl, q1107⟩) (ihN rfl) rfl ?_
  refine bobj (pc' := 136) rfl dX3_init_133 rfl (⟨lkf0 q2618 lf_177, lkp1 rfl lp_178⟩) (ihN rfl) rfl ?_
  refine bplain (pc' := 137) rfl dX3_init_136 rfl (ihN rfl) rfl ?_
  refine bplain (pc' := 140) rfl dX3_init_137 rfl (ihN rfl) rfl ?_
  refine bobj (pc' := 142) rfl dX3_init_140 rfl (⟨by decide, rfl, q1107⟩) (ihN rfl) rfl ?_
  refine bobj (pc' := 145) rfl dX3_init_142 rfl (⟨lkf0 q2620 lf_179, lkp1 rfl lp_180⟩) (ihN rfl) rfl ?_
  refine bplain (pc' := 146) rfl dX3_init_145 rfl (ihN rfl) rfl ?_
  refine bplain (pc' := 148) rfl dX3_init_146 rfl (ihN rfl) rfl ?_
  refine bobj (pc' := 150) rfl dX3_init_148 rfl (⟨by decide, rfl, q1107⟩) (ihN rfl) rfl ?_
  refine bobj (pc' := 153) rfl dX3_init_150 rfl (⟨lkf0 q2621 lf_181, lkp1 rfl lp_182⟩) (ihN rfl) rfl ?_
  refine bplain (pc' := 154) rfl dX3_init_153 rfl (ihN rfl) rfl ?_
  refine bplain (pc' := 156) rfl dX3_init_154 rfl (ihN rfl) rfl ?_
  refine bobj (pc' := 158) rfl dX3_init_156 rfl (⟨by decide, rfl, q1107⟩) (ihN rfl) rfl ?_
  refine bobj (pc' := 161) rfl dX3_init_158 rfl (⟨lkf0 q2626 lf_183, lkp1 rfl lp_184⟩) (ihN rfl) rfl ?_
  refine bplain (pc' := 162) rfl dX3_init_161 rfl (ihN rfl) rfl ?_
  refine bplain (pc' := 165) rfl dX3_init_162 rfl (ihN rfl) rfl ?_
  refine bobj (pc' := 167) rfl dX3_init_165 rfl (⟨by decide, rfl, q1108⟩) (ihN rfl) rfl ?_
  refine bobj (pc' := 170) rfl dX3_init_167 rfl (⟨lkf0 q2627 lf_185, lkp1 rfl lp_186⟩) (ihN rfl) rfl ?_
  refine bplain (pc' := 171) rfl dX3_init_170 rfl (ihN rfl) rfl ?_
  refine bplain (pc' := 174) rfl dX3_init_171 rfl (ihN rfl) rfl ?_
  refine bobj (pc' := 176) rfl dX3_init_174 rfl (⟨by decide, rfl, q1108⟩) (ihN rfl) rfl ?_
  refine bobj (pc' := 179) rfl dX3_init_176 rfl (⟨lkf0 q2628 lf_187, lkp1 rfl lp_188⟩) (ihN rfl) rfl ?_
  refine bplain (pc' := 180) rfl dX3_init_179 rfl (ihN rfl) rfl ?_
  refine bplain (pc' := 183) rfl dX3_init_180 rfl (ihN rfl) rfl ?_
  refine bobj (pc' := 185) rfl dX3_init_183 rfl (⟨by decide, rfl, q1109⟩) (ihN rfl) rfl ?_
  refine bobj (pc' := 188) rfl dX3_init_185 rfl (⟨lkf0 q2629 lf_189, lkp1 rfl lp_190⟩) (ihN rfl) rfl ?_
  refine bplain (pc' := 189) rfl dX3_init_188 rfl (ihN rfl) rfl ?_
  refine bplain (pc' := 190) rfl dX3_init_189 rfl (ihN rfl) rfl ?_
  refine bobj (pc' := 192) rfl dX3_init_190 rfl (⟨by decide, rfl, q1107⟩) (ihN rfl) rfl ?_
  refine bobj (pc' := 195) rfl dX3_init_192 rfl (⟨lkf0 q2632 lf_191, lkp1 rfl lp_192⟩) (ihN rfl) rfl ?_
  refine bplain (pc' := 196) rfl dX3_init_195 rfl (ihN rfl) rfl ?_
  refine bplain (pc' := 198) rfl dX3_init_196 rfl (ihN rfl) rfl ?_
  refine bobj (pc' := 200) rfl dX3_init_198 rfl (⟨by decide, rfl, q1107⟩) (ihN rfl) rfl ?_
  refine bobj (pc' := 203) rfl dX3_init_200 rfl (⟨lkf0 q2633 lf_193, lkp1 rfl lp_194⟩) (ihN rfl) rfl ?_
  refine bplain (pc' := 204) rfl dX3_init_203 rfl (ihN rfl) rfl ?_
  refine bplain (pc' := 206) rfl dX3_init_204 rfl (ihN rfl) rfl ?_
  refine bobj (pc' := 208) rfl dX3_init_206 rfl (⟨by decide, rfl, q1107⟩) (ihN rfl) rfl ?_
  refine bobj (pc' := 211) rfl dX3_init_208 rfl (⟨lkf0 q2637 lf_195, lkp1 rfl lp_196⟩) (ihN rfl) rfl ?_
  refine bplain (pc' := 212) rfl dX3_init_211 rfl (ihN rfl) rfl ?_
  refine bplain (pc' := 215) rfl dX3_init_212 rfl (ihN rfl) rfl ?_
  refine bobj (pc' := 217) rfl dX3_init_215 rfl (⟨by decide, rfl, q1108⟩) (ihN rfl) rfl ?_
  refine bobj (pc' := 220) rfl dX3_init_217 rfl (⟨lkf0 q2638 lf_197, lkp1 rfl lp_198⟩) (ihN rfl) rfl ?_
  refine bplain (pc' := 221) rfl dX3_init_220 rfl (ihN rfl) rfl ?_
  refine bplain (pc' := 224) rfl dX3_init_221 rfl (ihN rfl) rfl ?_
  refine bobj (pc' := 226) rfl dX3_init_224 rfl (⟨by decide, rfl, q1108⟩) (ihN rfl) rfl ?_
  refine bobj (pc' := 229) rfl dX3_init_226 rfl (⟨lkf0 q2639 lf_199, lkp1 rfl lp_200⟩) (ihN rfl) rfl ?_
  refine bplain (pc' := 230) rfl dX3_init_229 rfl (ihN rfl) rfl ?_
  refine bplain (pc' := 233) rfl dX3_init_230 rfl (ihN rfl) rfl ?_
  refine bobj (pc' := 235) rfl dX3_init_233 rfl (⟨by decide, rfl, q1107⟩) (ihN rfl) rfl ?_
  refine bobj (pc' := 238) rfl dX3_init_235 rfl (⟨lkf0 q2640 lf_201, lkp1 rfl lp_202⟩) (ihN rfl) rfl ?_
  refine bplain (pc' := 239) rfl dX3_init_238 rfl (ihN rfl) rfl ?_
  refine bplain (pc' := 241) rfl dX3_init_239 rfl (ihN rfl) rfl ?_
  refine bobj (pc' := 243) rfl dX3_init_241 rfl (⟨by decide, rfl, q1107⟩) (ihN rfl) rfl ?_
  refine bobj (pc' := 246) rfl dX3_init_243 rfl (⟨lkf0 q2641 lf_203, lkp1 rfl lp_204⟩) (ihN rfl) rfl ?_
  refine bplain (pc' := 247) rfl dX3_init_246 rfl (ihN rfl) rfl ?_
  refine bplain (pc' := 248) rfl dX3_init_247 rfl (ihN rfl) rfl ?_
  refine bobj (pc' := 250) rfl dX3_init_248 rfl (⟨by decide, rfl, q1107⟩) (ihN rfl) rfl ?_
  refine bobj (pc' := 253) rfl dX3_init_250 rfl (⟨lkf0 q2642 lf_205, lkp1 rfl lp_206⟩) (ihN rfl) rfl ?_
  refine bplain (pc' := 254) rfl dX3_init_253 rfl (ihN rfl) rfl ?_
  refine bplain (pc' := 255) rfl dX3_init_254 rfl (ihN rfl) rfl ?_
  refine bobj (pc' := 257) rfl dX3_init_255 rfl (⟨by decide, rfl, q1107⟩) (ihN rfl) rfl ?_
  refine bobj (pc' := 260) rfl dX3_init_257 rfl (⟨lkf0 q2643 lf_207, lkp1 rfl lp_208⟩) (ihN rfl) rfl ?_
  refine bplain (pc' := 261) rfl dX3_init_260 rfl (ihN rfl) rfl ?_
  refine bplain (pc' := 262) rfl dX3_init_261 rfl (ihN rfl) rfl ?_
  exact bnop0 rfl (by decide)
theorem bf_X3_init_262 : BOKt mt tX3_init 42 262 b_X3_init_262 := by
  refine bplain (pc' := 263) rfl dX3_init_262 rfl (ihN rfl) rfl ?_
  refine bplain (pc' := 265) rfl dX3_init_263 rfl (ihN rfl) rfl ?_
  refine bjmp (tg := 281) (pc' := 268) rfl (by decide) (by decide) rfl dX3_init_265 rfl (ihN rfl) rfl ?_
  refine bplain (pc' := 269) rfl dX3_init_268 rfl (ihN rfl) rfl ?_
  refine bthr (pc' := 272) rfl dX3_init_269 rfl (lkf0 q2597 lf_145) (trivial) (ihN rfl) rfl ?_
  refine bplain (pc' := 273) rfl dX3_init_272 rfl (ihN rfl) rfl ?_
  refine bplain (pc' := 274) rfl dX3_init_273 rfl (ihN rfl) rfl ?_
  refine bplain (pc' := 275) rfl dX3_init_274 rfl (ihN rfl) rfl ?_
  refine bplain (pc' := 278) rfl dX3_init_275 rfl (ihN rfl) rfl ?_
  refine bjmp (tg := 262) (pc' := 281) rfl (by decide) (by decide) rfl dX3_init_278 rfl (ihN rfl) rfl ?_
  exact trivial
theorem bf_X3_init_281 : BOKt mt tX3_init 42 281 b_X3_init_281 := by
  refine bplain (pc' := 282) rfl dX3_init_281 rfl (ihN rfl) rfl ?_
  refine bplain (pc' := 283) rfl dX3_init_282 rfl (ihN rfl) rfl ?_
  exact bnop0 rfl (by decide)
theorem bf_X3_init_283 : BOKt mt tX3_init 42 283 b_X3_init_283 := by
  refine bplain (pc' := 284) rfl dX3_init_283 rfl (ihN rfl) rfl ?_
  refine bplain (pc' := 287) rfl dX3_init_284 rfl (ihN rfl) rfl ?_
  refine bjmp (tg := 303) (pc' := 290) rfl (by decide) (by decide) rfl dX3_init_287 rfl (ihN rfl) rfl ?_
  refine bplain (pc' := 291) rfl dX3_init_290 rfl (ihN rfl) rfl ?_
  refine bthr (pc' := 294) rfl dX3_init_291 rfl (lkf0 q2600 lf_151) (trivial) (ihN rfl) rfl ?_
  refine bplain (pc' := 295) rfl dX3_init_294 rfl (ihN rfl) rfl ?_
  refine bplain (pc' := 296) rfl dX3_init_295 rfl (ihN rfl) rfl ?_
  refine bplain (pc' := 297) rfl dX3_init_296 rfl (ihN rfl) rfl ?_
  refine bplain (pc' := 300) rfl dX3_init_297 rfl (ihN rfl) rfl ?_
  refine bjmp (tg := 283) (pc' := 303) rfl (by decide) (by decide) rfl dX3_init_300 rfl (ihN rfl) rfl ?_
  exact trivial
theorem bf_X3_init_303 : BOKt mt tX3_init 42 303 b_X3_init_303 := by
  refine bret (pc' := 304) rfl dX3_init_303 rfl (rfl) (ihN rfl) rfl ?_
  exact trivial
theorem tf_X3_init : ∀ x ∈ tb_X3_init, BOK mt 42 x.1 x.2 := tb_c mt_X3_init bf_X3_init_0 (tb_c mt_X3_init bf_X3_init_262 (tb_c mt_X3_init bf_X3_init_281 (tb_c mt_X3_init bf_X3_init_283 (tb_c mt_X3_init bf_X3_init_303 (tb_n)))))
theorem bf_X0_in_0 : BOKt mt tX0_in 43 0 b_X0_in_0 := by
  refine bplain (pc' := 1) rfl dX0_in_0 rfl (ihN rfl) rfl ?_
  refine bplain (pc' := 2) rfl dX0_in_1 rfl (ihN rfl) rfl ?_
  refine bplain (pc' := 3) rfl dX0_in_2 rfl (ihN rfl) rfl ?_
  refine bjmp (tg := 17) (pc' := 6) rfl (by decide) (by decide) rfl dX0_in_3 rfl (ihN rfl) rfl ?_
  refine bplain (pc' := 7) rfl dX0_in_6 rfl (ihN rfl) rfl ?_
  refine bplain (pc' := 9) rfl dX0_in_7 rfl (ihN rfl) rfl ?_
  refine bplain (pc' := 10) rfl dX0_in_9 rfl (ihN rfl) rfl ?_
  refine bjmp (tg := 17) (pc' := 13) rfl (by decide) (by decide) rfl dX0_in_10 rfl (ihN rfl) rfl ?_
  refine bplain (pc' := 14) rfl dX0_in_13 rfl (ihN rfl) rfl ?_
  refine bjmp (tg := 18) (pc' := 17) rfl (by decide) (by decide) rfl dX0_in_14 rfl (ihN rfl) rfl ?_
  exact trivial
theorem bf_X0_in_17 : BOKt mt tX0_in 43 17 b_X0_in_17 := by
  refine bnop1 ?_
  refine bplain (pc' := 18) rfl dX0_in_17 rfl (ihN rfl) rfl ?_
  exact bnop0 rfl (by decide)
theorem bf_X0_in_18 : BOKt mt tX0_in 43 18 b_X0_in_18 := by
  refine bnop1 ?_
  refine bret (pc' := 19) rfl dX0_in_18 rfl (Or.inr ⟨rfl, rfl⟩) (ihN rfl) rfl ?_
  exact trivial
theorem tf_X0_in : ∀ x ∈ tb_X0_in, BOK mt 43 x.1 x.2 := tb_c mt_X0_in bf_X0_in_0 (tb_c mt_X0_in bf_X0_in_17 (tb_c mt_X0_in bf_X0_in_18 (tb_n)))
theorem bf_X0_isRow_0 : BOKt mt tX0_isRow 44 0 b_X0_isRow_0 := by
  refine bplain (pc' := 1) rfl dX0_isRow_0 rfl (ihN rfl) rfl ?_
  refine bplain (pc' := 2) rfl dX0_isRow_1 rfl (ihN rfl) rfl ?_
  refine bplain (pc' := 3) rfl dX0_isRow_2 rfl (ihN rfl) rfl ?_
  refine bobj (pc' := 6) rfl dX0_isRow_3 rfl (lkq0 lc_209 q1212) (ihN rfl) rfl ?_
  refine bcall (pc' := 9) rfl dX0_isRow_6 rfl (trivial) (lcs (l := q1214) mt_X0_in ⟨by decide, by decide⟩ mok_X0_in rfl ln_210 (Or.inl q1213)) (ihN rfl) rfl ?_
  refine bret (pc' := 10) rfl dX0_isRow_9 rfl (Or.inr ⟨rfl, rfl⟩) (ihN rfl) rfl ?_
  exact trivial
theorem tf_X0_isRow : ∀ x ∈ tb_X0_isRow, BOK mt 44 x.1 x.2 := tb_c mt_X0_isRow bf_X0_isRow_0 (tb_n)
theorem bf_X4_made_0 : BOKt mt tX4_made 45 0 b_X4_made_0 := by
  refine bplain (pc' := 1) rfl dX4_made_0 rfl (ihN rfl) rfl ?_
  exact bsw rfl dX4_made_1 (swt (by decide) (by decide) (by decide) (by decide) (by decide +kernel) (by decide +kernel)) (by decide +kernel) (ihN rfl)
theorem bf_X4_made_32 : BOKt mt tX4_made 45 32 b_X4_made_32 := by
  refine bplain (pc' := 33) rfl dX4_made_32 rfl (ihN rfl) rfl ?_
  refine bobj (pc' := 35) rfl dX4_made_33 rfl (⟨by decide, rfl, q1244⟩) (ihN rfl) rfl ?_
  refine bret (pc' := 36) rfl dX4_made_35 rfl (⟨_, rfl, Or.inl ⟨_, rfl⟩⟩) (ihN rfl) rfl ?_
  exact trivial
theorem bf_X4_made_36 : BOKt mt tX4_made 45 36 b_X4_made_36 := by
  refine bplain (pc' := 37) rfl dX4_made_36 rfl (ihN rfl) rfl ?_
  refine bobj (pc' := 39) rfl dX4_made_37 rfl (⟨by decide, rfl, q1107⟩) (ihN rfl) rfl ?_
  refine bret (pc' := 40) rfl dX4_made_39 rfl (⟨_, rfl, Or.inl ⟨_, rfl⟩⟩) (ihN rfl) rfl ?_
  exact trivial
theorem bf_X4_made_40 : BOKt mt tX4_made 45 40 b_X4_made_40 := by
  refine bplain (pc' := 41) rfl dX4_made_40 rfl (ihN rfl) rfl ?_
  refine bobj (pc' := 43) rfl dX4_made_41 rfl (⟨by decide, rfl, q1245⟩) (ihN rfl) rfl ?_
  refine bret (pc' := 44) rfl dX4_made_43 rfl (⟨_, rfl, Or.inl ⟨_, rfl⟩⟩) (ihN rfl) rfl ?_
  exact trivial
theorem bf_X4_made_44 : BOKt mt tX4_made 45 44 b_X4_made_44 := by
  refine bplain (pc' := 45) rfl dX4_made_44 rfl (ihN rfl) rfl ?_
  refine bobj (pc' := 47) rfl dX4_made_45 rfl (⟨by decide, rfl, q1108⟩) (ihN rfl) rfl ?_
  refine bret (pc' := 48) rfl dX4_made_47 rfl (⟨_, rfl, Or.inl ⟨_, rfl⟩⟩) (ihN rfl) rfl ?_
  exact trivial
theorem bf_X4_made_48 : BOKt mt tX4_made 45 48 b_X4_made_48 := by
  refine bplain (pc' := 49) rfl dX4_made_48 rfl (ihN rfl) rfl ?_
  refine bobj (pc' := 51) rfl dX4_made_49 rfl (⟨by decide, rfl, q1109⟩) (ihN rfl) rfl ?_
  refine bret (pc' := 52) rfl dX4_made_51 rfl (⟨_, rfl, Or.inl ⟨_, rfl⟩⟩) (ihN rfl) rfl ?_
  exact trivial
theorem tf_X4_made : ∀ x ∈ tb_X4_made, BOK mt 45 x.1 x.2 := tb_c mt_X4_made bf_X4_made_0 (tb_c mt_X4_made bf_X4_made_32 (tb_c mt_X4_made bf_X4_made_36 (tb_c mt_X4_made bf_X4_made_40 (tb_c mt_X4_made bf_X4_made_44 (tb_c mt_X4_made bf_X4_made_48 (tb_n))))))
theorem bf_X4_init_0 : BOKt mt tX4_init 46 0 b_X4_init_0 := by
  refine bplain (pc' := 1) rfl dX4_init_0 rfl (ihN rfl) rfl ?_
  refine bcall (pc' := 4) rfl dX4_init_1 rfl (trivial) (lco rfl ⟨q1221, q193, q194⟩) (ihN rfl) rfl ?_
  refine bplain (pc' := 5) rfl dX4_init_4 rfl (ihN rfl) rfl ?_
  refine bplain (pc' := 6) rfl dX4_init_5 rfl (ihN rfl) rfl ?_
  refine bobj (pc' := 9) rfl dX4_init_6 rfl (⟨lkf0 q1227 lf_211, lkp1 rfl lp_212⟩) (ihN rfl) rfl ?_
  refine bplain (pc' := 10) rfl dX4_init_9 rfl (ihN rfl) rfl ?_
  refine bplain (pc' := 11) rfl dX4_init_10 rfl (ihN rfl) rfl ?_
  refine bplain (pc' := 12) rfl dX4_init_11 rfl (ihN rfl) rfl ?_
  refine bcall (pc' := 15) rfl dX4_init_12 rfl (trivial) (lcs (l := q1223) mt_X4_made ⟨by decide, by decide⟩ mok_X4_made rfl ln_213 (Or.inl q1222)) (ihN rfl) rfl ?_
  refine bobj (pc' := 18) rfl dX4_init_15 rfl (⟨lkf0 q1225 lf_214, lkp1 rfl lp_215⟩) (ihN rfl) rfl ?_
  refine bplain (pc' := 19) rfl dX4_init_18 rfl (ihN rfl) rfl ?_
  refine bplain (pc' := 20) rfl dX4_init_19 rfl (ihN rfl) rfl ?_
  refine bobj (pc' := 23) rfl dX4_init_20 rfl (⟨lkf0 q1230 lf_216, lkp1 rfl lp_217⟩) (ihN rfl) rfl ?_
  refine bplain (pc' := 24) rfl dX4_init_23 rfl (ihN rfl) rfl ?_
  refine bplain (pc' := 25) rfl dX4_init_24 rfl (ihN rfl) rfl ?_
  refine bobj (pc' := 27) rfl dX4_init_25 rfl (⟨by decide, rfl, q1107⟩) (ihN rfl) rfl ?_
  refine bobj (pc' := 30) rfl dX4_init_27 rfl (⟨lkf0 q1232 lf_218, lkp1 rfl lp_219⟩) (ihN rfl) rfl ?_
  refine bplain (pc' := 31) rfl dX4_init_30 rfl (ihN rfl) rfl ?_
  refine bplain (pc' := 32) rfl dX4_init_31 rfl (ihN rfl) rfl ?_
  exact bnop0 rfl (by decide)
theorem bf_X4_init_32 : BOKt mt tX4_init 46 32 b_X4_init_32 := by
  refine bnop1 ?_
  refine bplain (pc' := 33) rfl dX4_init_32 rfl (ihN rfl) rfl ?_
  refine bplain (pc' := 34) rfl dX4_init_33 rfl (ihN rfl) rfl ?_
  refine bjmp (tg := 50) (pc' := 37) rfl (by decide) (by decide) rfl dX4_init_34 rfl (ihN rfl) rfl ?_
  refine bplain (pc' := 38) rfl dX4_init_37 rfl (ihN rfl) rfl ?_
  refine bthr (pc' := 41) rfl dX4_init_38 rfl (lkf0 q1232 lf_218) (trivial) (ihN rfl) rfl ?_
  refine bplain (pc' := 42) rfl dX4_init_41 rfl (ihN rfl) rfl ?_
  refine bplain (pc' := 43) rfl dX4_init_42 rfl (ihN rfl) rfl ?_
  refine bplain (pc' := 44) rfl dX4_init_43 rfl (ihN rfl) rfl ?_
  refine bplain (pc' := 47) rfl dX4_init_44 rfl (ihN rfl) rfl ?_
  refine bjmp (tg := 32) (pc' := 50) rfl (by decide) (by decide) rfl dX4_init_47 rfl (ihN rfl) rfl ?_
  exact trivial
theorem bf_X4_init_50 : BOKt mt tX4_init 46 50 b_X4_init_50 := by
  refine bret (pc' := 51) rfl dX4_init_50 rfl (rfl) (ihN rfl) rfl ?_
  exact trivial
theorem tf_X4_init : ∀ x ∈ tb_X4_init, BOK mt 46 x.1 x.2 := tb_c mt_X4_init bf_X4_init_0 (tb_c mt_X4_init bf_X4_init_32 (tb_c mt_X4_init bf_X4_init_50 (tb_n)))
theorem bf_X0_finds_0 : BOKt mt tX0_finds 47 0 b_X0_finds_0 := by
  refine bplain (pc' := 1) rfl dX0_finds_0 rfl (ihN rfl) rfl ?_
  refine bplain (pc' := 2) rfl dX0_finds_1 rfl (ihN rfl) rfl ?_
  refine bobj (pc' := 5) rfl dX0_finds_2 rfl (⟨lkf0 q1110 lf_220, lkp0 lp_221⟩) (ihN rfl) rfl ?_
  refine bplain (pc' := 7) rfl dX0_finds_5 rfl (ihN rfl) rfl ?_
  refine bplain (pc' := 8) rfl dX0_finds_7 rfl (ihN rfl) rfl ?_
  refine bplain (pc' := 9) rfl dX0_finds_8 rfl (ihN rfl) rfl ?_
  refine bret (pc' := 10) rfl dX0_finds_9 rfl (Or.inl ⟨rfl, rfl⟩) (ihN rfl) rfl ?_
  exact trivial
theorem tf_X0_finds : ∀ x ∈ tb_X0_finds, BOK mt 47 x.1 x.2 := tb_c mt_X0_finds bf_X0_finds_0 (tb_n)
theorem bf_X0_row_0 : BOKt mt tX0_row 48 0 b_X0_row_0 := by
  refine bplain (pc' := 1) rfl dX0_row_0 rfl (ihP (fun h => nomatch h) rfl) rfl ?_
  refine bcall (pc' := 4) rfl dX0_row_1 rfl (trivial) (lcs (l := q1210) mt_X0_isRow ⟨by decide, by decide⟩ mok_X0_isRow rfl ln_222 (Or.inl q1209)) (ihH (fun h => nomatch h) (hokN (by decide +kernel))) rfl ?_
  refine bjmp (tg := 25) (pc' := 7) rfl (by decide) (by decide) rfl dX0_row_4 rfl (ihP (fun h => nomatch h) rfl) rfl ?_
  refine bplain (pc' := 8) rfl dX0_row_7 rfl (ihP (fun h => nomatch h) rfl) rfl ?_
  refine bplain (pc' := 9) rfl dX0_row_8 rfl (ihP (fun h => nomatch h) rfl) rfl ?_
  refine bplain (pc' := 10) rfl dX0_row_9 rfl (ihP (fun h => nomatch h) rfl) rfl ?_
  refine bobj (pc' := 13) rfl dX0_row_10 rfl (lkq0 lc_223 q1216) (ihP (fun h => nomatch h) rfl) rfl ?_
  refine bcall (pc' := 16) rfl dX0_row_13 rfl (trivial) (lcs (l := q1214) mt_X0_in ⟨by decide, by decide⟩ mok_X0_in rfl ln_210 (Or.inl q1213)) (ihH (fun h => nomatch h) (hokN (by decide +kernel))) rfl ?_
  refine bjmp (tg := 25) (pc' := 19) rfl (by decide) (by decide) rfl dX0_row_16 rfl (ihP (fun h => nomatch h) rfl) rfl ?_
  refine bplain (pc' := 20) rfl dX0_row_19 rfl (ihP (fun h => nomatch h) rfl) rfl ?_
  refine bplain (pc' := 22) rfl dX0_row_20 rfl (ihP (fun h => nomatch h) rfl) rfl ?_
  refine bjmp (tg := 28) (pc' := 25) rfl (by decide) (by decide) rfl dX0_row_22 rfl (ihP (fun h => nomatch h) rfl) rfl ?_
  exact bnop0 rfl (by decide)
theorem bf_X0_row_25 : BOKt mt tX0_row 48 25 b_X0_row_25 := by
  refine bnop1 ?_
  refine bplain (pc' := 27) rfl dX0_row_25 rfl (ihP (fun h => nomatch h) rfl) rfl ?_
  refine bret (pc' := 28) rfl dX0_row_27 rfl (Or.inl ⟨rfl, rfl⟩) (ihP (fun h => nomatch h) rfl) rfl ?_
  exact trivial
theorem bf_X0_row_28 : BOKt mt tX0_row 48 28 b_X0_row_28 := by
  refine bplain (pc' := 29) rfl dX0_row_28 rfl (ihP (fun h => nomatch h) rfl) rfl ?_
  refine bthr (pc' := 32) rfl dX0_row_29 rfl (lkf0 q1112 lf_113) (trivial) (ihP (fun h => nomatch h) rfl) rfl ?_
  refine bplain (pc' := 33) rfl dX0_row_32 rfl (ihP (fun h => nomatch h) rfl) rfl ?_
  refine bthr (pc' := 36) rfl dX0_row_33 rfl (⟨⟨by decide, by decide, by decide⟩, rfl, q1022, q1217, q163⟩) (trivial) (ihP (fun h => nomatch h) rfl) rfl ?_
  refine bplain (pc' := 37) rfl dX0_row_36 rfl (ihP (fun h => nomatch h) rfl) rfl ?_
  refine bplain (pc' := 38) rfl dX0_row_37 rfl (ihP (fun h => nomatch h) rfl) rfl ?_
  refine bplain (pc' := 39) rfl dX0_row_38 rfl (ihP (fun h => nomatch h) rfl) rfl ?_
  refine bcall (pc' := 42) rfl dX0_row_39 rfl (trivial) (lci mt_X4_init ⟨by decide, by decide⟩ mok_X4_init rfl rfl rfl ln_224 q1219 rfl (Or.inl q1218)) (ihH (fun h => nomatch h) (hokH (all6 (hk1n (⟨xps_x (nm := "java/lang/NegativeArraySizeException") rfl q1190 (List.mem_of_getElem? (i := 25) rfl), trivial⟩)) (hk1n (⟨xps_x (nm := "java/lang/NegativeArraySizeException") rfl q1190 (List.mem_of_getElem? (i := 31) rfl), trivial⟩)) (hk1n (⟨xps_x (nm := "java/lang/NegativeArraySizeException") rfl q1190 (List.mem_of_getElem? (i := 37) rfl), trivial⟩)) (hk1n (⟨xps_x (nm := "java/lang/NegativeArraySizeException") rfl q1190 (List.mem_of_getElem? (i := 42) rfl), trivial⟩)) (hk1s (k := 5) (pre := (tableOf [(28, 44, 45, 115)]).take 0) (suf := (tableOf [(28, 44, 45, 115)]).drop 1) (name := "java/lang/NegativeArraySizeException") rfl (trivial) rfl rfl q1190 q1202 (by decide) rfl) (hk1n (⟨xps_x (nm := "java/lang/NegativeArraySizeException") rfl q1190 (List.mem_of_getElem? (i := 55) rfl), trivial⟩))))) rfl ?_
  refine bplain (pc' := 43) rfl dX0_row_42 rfl (ihP (fun h => nomatch h) rfl) rfl ?_
  refine bplain (pc' := 44) rfl dX0_row_43 rfl (ihP (fun h => nomatch h) rfl) rfl ?_
  refine bret (pc' := 45) rfl dX0_row_44 rfl (Or.inl ⟨rfl, rfl⟩) (ihP (fun h => nomatch h) rfl) rfl ?_
  exact trivial
theorem bf_X0_row_45 : BOKt mt tX0_row 48 45 b_X0_row_45 := by
  refine bplain (pc' := 47) rfl dX0_row_45 rfl (ihP (fun h => nomatch h) rfl) rfl ?_
  refine bplain (pc' := 48) rfl dX0_row_47 rfl (ihP (fun h => nomatch h) rfl) rfl ?_
  refine bplain (pc' := 49) rfl dX0_row_48 rfl (ihP (fun h => nomatch h) rfl) rfl ?_
  refine bcall (pc' := 52) rfl dX0_row_49 rfl (trivial) (lcv (n := 1) rfl (pvc (lfv mt_X0_finds ⟨by decide, by decide⟩ mok_X0_finds ⟨by decide, by decide⟩ ⟨q1248, ln_225, Or.inl ⟨q1246, Or.inl qs4⟩⟩) (trivial)) (Or.inl (by decide))) (ihH (fun h => nomatch h) (hokN (by decide +kernel))) rfl ?_
  refine bret (pc' := 53) rfl dX0_row_52 rfl (Or.inl ⟨rfl, rfl⟩) (ihP (fun h => nomatch h) rfl) rfl ?_
  exact trivial
theorem tf_X0_row : ∀ x ∈ tb_X0_row, BOK mt 48 x.1 x.2 := tb_c mt_X0_row bf_X0_row_0 (tb_c mt_X0_row bf_X0_row_25 (tb_c mt_X0_row bf_X0_row_28 (tb_c mt_X0_row bf_X0_row_45 (tb_n))))
theorem bf_X3_in_0 : BOKt mt tX3_in 49 0 b_X3_in_0 := by
  refine bplain (pc' := 1) rfl dX3_in_0 rfl (ihN rfl) rfl ?_
  refine bplain (pc' := 2) rfl dX3_in_1 rfl (ihN rfl) rfl ?_
  refine bjmp (tg := 14) (pc' := 5) rfl (by decide) (by decide) rfl dX3_in_2 rfl (ihN rfl) rfl ?_
  refine bplain (pc' := 6) rfl dX3_in_5 rfl (ihN rfl) rfl ?_
  refine bplain (pc' := 7) rfl dX3_in_6 rfl (ihN rfl) rfl ?_
  refine bjmp (tg := 14) (pc' := 10) rfl (by decide) (by decide) rfl dX3_in_7 rfl (ihN rfl) rfl ?_
  refine bplain (pc' := 11) rfl dX3_in_10 rfl (ihN rfl) rfl ?_
  refine bjmp (tg := 15) (pc' := 14) rfl (by decide) (by decide) rfl dX3_in_11 rfl (ihN rfl) rfl ?_
  exact trivial
theorem bf_X3_in_14 : BOKt mt tX3_in 49 14 b_X3_in_14 := by
  refine bnop1 ?_
  refine bplain (pc' := 15) rfl dX3_in_14 rfl (ihN rfl) rfl ?_
  exact bnop0 rfl (by decide)
theorem bf_X3_in_15 : BOKt mt tX3_in 49 15 b_X3_in_15 := by
  refine bnop1 ?_
  refine bret (pc' := 16) rfl dX3_in_15 rfl (Or.inr ⟨rfl, rfl⟩) (ihN rfl) rfl ?_
  exact trivial
theorem tf_X3_in : ∀ x ∈ tb_X3_in, BOK mt 49 x.1 x.2 := tb_c mt_X3_in bf_X3_in_0 (tb_c mt_X3_in bf_X3_in_14 (tb_c mt_X3_in bf_X3_in_15 (tb_n)))
theorem bf_X3_isRow_0 : BOKt mt tX3_isRow 50 0 b_X3_isRow_0 := by
  refine bplain (pc' := 1) rfl dX3_isRow_0 rfl (ihN rfl) rfl ?_
  refine bplain (pc' := 2) rfl dX3_isRow_1 rfl (ihN rfl) rfl ?_
  refine bplain (pc' := 3) rfl dX3_isRow_2 rfl (ihN rfl) rfl ?_
  refine bcall (pc' := 6) rfl dX3_isRow_3 rfl (trivial) (lcs (l := q2747) mt_X3_in ⟨by decide, by decide⟩ mok_X3_in rfl ln_226 (Or.inl q2746)) (ihN rfl) rfl ?_
  refine bret (pc' := 7) rfl dX3_isRow_6 rfl (Or.inr ⟨rfl, rfl⟩) (ihN rfl) rfl ?_
  exact trivial
theorem tf_X3_isRow : ∀ x ∈ tb_X3_isRow, BOK mt 50 x.1 x.2 := tb_c mt_X3_isRow bf_X3_isRow_0 (tb_n)
theorem bf_X3_meets_0 : BOKt mt tX3_meets 51 0 b_X3_meets_0 := by
  refine bplain (pc' := 1) rfl dX3_meets_0 rfl (ihN rfl) rfl ?_
  refine bplain (pc' := 2) rfl dX3_meets_1 rfl (ihN rfl) rfl ?_
  refine bobj (pc' := 5) rfl dX3_meets_2 rfl (⟨lkf0 q2601 lf_227, lkp0 lp_228⟩) (ihN rfl) rfl ?_
  refine bplain (pc' := 7) rfl dX3_meets_5 rfl (ihN rfl) rfl ?_
  refine bplain (pc' := 8) rfl dX3_meets_7 rfl (ihN rfl) rfl ?_
  refine bplain (pc' := 9) rfl dX3_meets_8 rfl (ihN rfl) rfl ?_
  refine bret (pc' := 10) rfl dX3_meets_9 rfl (Or.inl ⟨rfl, rfl⟩) (ihN rfl) rfl ?_
  exact trivial
theorem tf_X3_meets : ∀ x ∈ tb_X3_meets, BOK mt 51 x.1 x.2 := tb_c mt_X3_meets bf_X3_meets_0 (tb_n)
theorem bf_X3_row_0 : BOKt mt tX3_row 52 0 b_X3_row_0 := by
  refine bplain (pc' := 1) rfl dX3_row_0 rfl (ihN rfl) rfl ?_
  refine bcall (pc' := 4) rfl dX3_row_1 rfl (trivial) (lcs (l := q2744) mt_X3_isRow ⟨by decide, by decide⟩ mok_X3_isRow rfl ln_222 (Or.inl q2743)) (ihN rfl) rfl ?_
  refine bjmp (tg := 22) (pc' := 7) rfl (by decide) (by decide) rfl dX3_row_4 rfl (ihN rfl) rfl ?_
  refine bplain (pc' := 8) rfl dX3_row_7 rfl (ihN rfl) rfl ?_
  refine bplain (pc' := 9) rfl dX3_row_8 rfl (ihN rfl) rfl ?_
  refine bplain (pc' := 10) rfl dX3_row_9 rfl (ihN rfl) rfl ?_
  refine bcall (pc' := 13) rfl dX3_row_10 rfl (trivial) (lcs (l := q2747) mt_X3_in ⟨by decide, by decide⟩ mok_X3_in rfl ln_226 (Or.inl q2746)) (ihN rfl) rfl ?_
  refine bjmp (tg := 22) (pc' := 16) rfl (by decide) (by decide) rfl dX3_row_13 rfl (ihN rfl) rfl ?_
  refine bplain (pc' := 17) rfl dX3_row_16 rfl (ihN rfl) rfl ?_
  refine bplain (pc' := 19) rfl dX3_row_17 rfl (ihN rfl) rfl ?_
  refine bjmp (tg := 25) (pc' := 22) rfl (by decide) (by decide) rfl dX3_row_19 rfl (ihN rfl) rfl ?_
  exact bnop0 rfl (by decide)
theorem bf_X3_row_22 : BOKt mt tX3_row 52 22 b_X3_row_22 := by
  refine bnop1 ?_
  refine bplain (pc' := 24) rfl dX3_row_22 rfl (ihN rfl) rfl ?_
  refine bret (pc' := 25) rfl dX3_row_24 rfl (Or.inl ⟨rfl, rfl⟩) (ihN rfl) rfl ?_
  exact trivial
theorem bf_X3_row_25 : BOKt mt tX3_row 52 25 b_X3_row_25 := by
  refine bplain (pc' := 26) rfl dX3_row_25 rfl (ihN rfl) rfl ?_
  refine bjmp (tg := 35) (pc' := 29) rfl (by decide) (by decide) rfl dX3_row_26 rfl (ihN rfl) rfl ?_
  refine bplain (pc' := 30) rfl dX3_row_29 rfl (ihN rfl) rfl ?_
  refine bplain (pc' := 31) rfl dX3_row_30 rfl (ihN rfl) rfl ?_
  refine bcall (pc' := 34) rfl dX3_row_31 rfl (trivial) (lcv (n := 1) rfl (pvc (lfv mt_X3_meets ⟨by decide, by decide⟩ mok_X3_meets ⟨by decide, by decide⟩ ⟨q2751, ln_225, Or.inl ⟨q2749, Or.inl qs63⟩⟩) (trivial)) (Or.inl (by decide))) (ihN rfl) rfl ?_
  refine bret (pc' := 35) rfl dX3_row_34 rfl (Or.inl ⟨rfl, rfl⟩) (ihN rfl) rfl ?_
  exact trivial
theorem bf_X3_row_35 : BOKt mt tX3_row 52 35 b_X3_row_35 := by
  refine bplain (pc' := 36) rfl dX3_row_35 rfl (ihN rfl) rfl ?_
  refine bthr (pc' := 39) rfl dX3_row_36 rfl (lkf0 q2597 lf_145) (trivial) (ihN rfl) rfl ?_
  refine bplain (pc' := 40) rfl dX3_row_39 rfl (ihN rfl) rfl ?_
  refine bplain (pc' := 41) rfl dX3_row_40 rfl (ihN rfl) rfl ?_
  refine bplain (pc' := 42) rfl dX3_row_41 rfl (ihN rfl) rfl ?_
  refine bplain (pc' := 43) rfl dX3_row_42 rfl (ihN rfl) rfl ?_
  refine bthr (pc' := 46) rfl dX3_row_43 rfl (lkf0 q2598 lf_147) (trivial) (ihN rfl) rfl ?_
  refine bplain (pc' := 47) rfl dX3_row_46 rfl (ihN rfl) rfl ?_
  refine bplain (pc' := 48) rfl dX3_row_47 rfl (ihN rfl) rfl ?_
  refine bplain (pc' := 49) rfl dX3_row_48 rfl (ihN rfl) rfl ?_
  refine bplain (pc' := 50) rfl dX3_row_49 rfl (ihN rfl) rfl ?_
  refine bplain (pc' := 52) rfl dX3_row_50 rfl (ihN rfl) rfl ?_
  exact bnop0 rfl (by decide)
theorem bf_X3_row_52 : BOKt mt tX3_row 52 52 b_X3_row_52 := by
  refine bnop1 ?_
  refine bplain (pc' := 54) rfl dX3_row_52 rfl (ihN rfl) rfl ?_
  refine bplain (pc' := 56) rfl dX3_row_54 rfl (ihN rfl) rfl ?_
  refine bjmp (tg := 91) (pc' := 59) rfl (by decide) (by decide) rfl dX3_row_56 rfl (ihN rfl) rfl ?_
  refine bplain (pc' := 60) rfl dX3_row_59 rfl (ihN rfl) rfl ?_
  refine bthr (pc' := 63) rfl dX3_row_60 rfl (lkf0 q2599 lf_149) (trivial) (ihN rfl) rfl ?_
  refine bplain (pc' := 65) rfl dX3_row_63 rfl (ihN rfl) rfl ?_
  refine bplain (pc' := 66) rfl dX3_row_65 rfl (ihN rfl) rfl ?_
  refine bplain (pc' := 67) rfl dX3_row_66 rfl (ihN rfl) rfl ?_
  refine bplain (pc' := 69) rfl dX3_row_67 rfl (ihN rfl) rfl ?_
  refine bplain (pc' := 70) rfl dX3_row_69 rfl (ihN rfl) rfl ?_
  refine bplain (pc' := 71) rfl dX3_row_70 rfl (ihN rfl) rfl ?_
  refine bplain (pc' := 72) rfl dX3_row_71 rfl (ihN rfl) rfl ?_
  refine bplain (pc' := 73) rfl dX3_row_72 rfl (ihN rfl) rfl ?_
  refine bthr (pc' := 76) rfl dX3_row_73 rfl (lkf0 q2600 lf_151) (trivial) (ihN rfl) rfl ?_
  refine bplain (pc' := 78) rfl dX3_row_76 rfl (ihN rfl) rfl ?_
  refine bplain (pc' := 79) rfl dX3_row_78 rfl (ihN rfl) rfl ?_
  refine bplain (pc' := 80) rfl dX3_row_79 rfl (ihN rfl) rfl ?_
  refine bplain (pc' := 82) rfl dX3_row_80 rfl (ihN rfl) rfl ?_
  refine bplain (pc' := 83) rfl dX3_row_82 rfl (ihN rfl) rfl ?_
  refine bplain (pc' := 84) rfl dX3_row_83 rfl (ihN rfl) rfl ?_
  refine bplain (pc' := 85) rfl dX3_row_84 rfl (ihN rfl) rfl ?_
  refine bplain (pc' := 88) rfl dX3_row_85 rfl (ihN rfl) rfl ?_
  refine bjmp (tg := 52) (pc' := 91) rfl (by decide) (by decide) rfl dX3_row_88 rfl (ihN rfl) rfl ?_
  exact trivial
theorem bf_X3_row_91 : BOKt mt tX3_row 52 91 b_X3_row_91 := by
  refine bplain (pc' := 92) rfl dX3_row_91 rfl (ihN rfl) rfl ?_
  refine bret (pc' := 93) rfl dX3_row_92 rfl (Or.inl ⟨rfl, rfl⟩) (ihN rfl) rfl ?_
  exact trivial
theorem tf_X3_row : ∀ x ∈ tb_X3_row, BOK mt 52 x.1 x.2 := tb_c mt_X3_row bf_X3_row_0 (tb_c mt_X3_row bf_X3_row_22 (tb_c mt_X3_row bf_X3_row_25 (tb_c mt_X3_row bf_X3_row_35 (tb_c mt_X3_row bf_X3_row_52 (tb_c mt_X3_row bf_X3_row_91 (tb_n))))))
theorem bf_X0_lose_0 : BOKt mt tX0_lose 53 0 b_X0_lose_0 := by
  refine bplain (pc' := 1) rfl dX0_lose_0 rfl (ihP (fun h => nomatch h) rfl) rfl ?_
  refine bcall (pc' := 4) rfl dX0_lose_1 rfl (trivial) (lcs (l := q1210) mt_X0_isRow ⟨by decide, by decide⟩ mok_X0_isRow rfl ln_222 (Or.inl q1209)) (ihH (fun h => nomatch h) (hokN (by decide +kernel))) rfl ?_
  refine bjmp (tg := 10) (pc' := 7) rfl (by decide) (by decide) rfl dX0_lose_4 rfl (ihP (fun h => nomatch h) rfl) rfl ?_
  refine bplain (pc' := 9) rfl dX0_lose_7 rfl (ihP (fun h => nomatch h) rfl) rfl ?_
  refine bret (pc' := 10) rfl dX0_lose_9 rfl (Or.inl ⟨rfl, rfl⟩) (ihP (fun h => nomatch h) rfl) rfl ?_
  exact trivial
theorem bf_X0_lose_10 : BOKt mt tX0_lose 53 10 b_X0_lose_10 := by
  refine bplain (pc' := 11) rfl dX0_lose_10 rfl (ihP (fun h => nomatch h) rfl) rfl ?_
  refine bthr (pc' := 14) rfl dX0_lose_11 rfl (lkf0 q1112 lf_113) (trivial) (ihP (fun h => nomatch h) rfl) rfl ?_
  refine bplain (pc' := 15) rfl dX0_lose_14 rfl (ihP (fun h => nomatch h) rfl) rfl ?_
  refine bplain (pc' := 16) rfl dX0_lose_15 rfl (ihP (fun h => nomatch h) rfl) rfl ?_
  refine bthr (pc' := 19) rfl dX0_lose_16 rfl (lkf1 (host := "StrideTurns") (by decide) q1231 lf_216) (lkf2 (host := "StrideTurns") q1231 lf_216) (ihH (fun h => nomatch h) (hokH (all6 (hk1s (k := 1) (pre := (tableOf [(10, 28, 29, 124)]).take 0) (suf := (tableOf [(10, 28, 29, 124)]).drop 1) (name := "java/lang/NullPointerException") rfl (trivial) rfl rfl q1254 q1276 (by decide) rfl) (hk1n (⟨xps_x (nm := "java/lang/NullPointerException") rfl q1254 (List.mem_of_getElem? (i := 28) rfl), trivial⟩)) (hk1n (⟨xps_x (nm := "java/lang/NullPointerException") rfl q1254 (List.mem_of_getElem? (i := 34) rfl), trivial⟩)) (hk1n (⟨xps_x (nm := "java/lang/NullPointerException") rfl q1254 (List.mem_of_getElem? (i := 39) rfl), trivial⟩)) (hk1n (⟨xps_x (nm := "java/lang/NullPointerException") rfl q1254 (List.mem_of_getElem? (i := 45) rfl), trivial⟩)) (hk1n (⟨xps_x (nm := "java/lang/NullPointerException") rfl q1254 (List.mem_of_getElem? (i := 51) rfl), trivial⟩))))) rfl ?_
  refine bplain (pc' := 20) rfl dX0_lose_19 rfl (ihP (fun h => nomatch h) rfl) rfl ?_
  refine bplain (pc' := 21) rfl dX0_lose_20 rfl (ihP (fun h => nomatch h) rfl) rfl ?_
  refine bthr (pc' := 24) rfl dX0_lose_21 rfl (lkf0 q1112 lf_113) (trivial) (ihP (fun h => nomatch h) rfl) rfl ?_
  refine bplain (pc' := 25) rfl dX0_lose_24 rfl (ihP (fun h => nomatch h) rfl) rfl ?_
  refine bplain (pc' := 26) rfl dX0_lose_25 rfl (ihP (fun h => nomatch h) rfl) rfl ?_
  refine bplain (pc' := 27) rfl dX0_lose_26 rfl (ihP (fun h => nomatch h) rfl) rfl ?_
  refine bplain (pc' := 28) rfl dX0_lose_27 rfl (ihP (fun h => nomatch h) rfl) rfl ?_
  refine bret (pc' := 29) rfl dX0_lose_28 rfl (Or.inl ⟨rfl, rfl⟩) (ihP (fun h => nomatch h) rfl) rfl ?_
  exact trivial
theorem bf_X0_lose_29 : BOKt mt tX0_lose 53 29 b_X0_lose_29 := by
  refine bplain (pc' := 30) rfl dX0_lose_29 rfl (ihP (fun h => nomatch h) rfl) rfl ?_
  refine bplain (pc' := 31) rfl dX0_lose_30 rfl (ihP (fun h => nomatch h) rfl) rfl ?_
  refine bplain (pc' := 32) rfl dX0_lose_31 rfl (ihP (fun h => nomatch h) rfl) rfl ?_
  refine bcall (pc' := 35) rfl dX0_lose_32 rfl (trivial) (lcv (n := 1) rfl (pvc (lfv mt_X0_finds ⟨by decide, by decide⟩ mok_X0_finds ⟨by decide, by decide⟩ ⟨q1248, ln_225, Or.inl ⟨q1246, Or.inl qs4⟩⟩) (trivial)) (Or.inl (by decide))) (ihH (fun h => nomatch h) (hokN (by decide +kernel))) rfl ?_
  refine bret (pc' := 36) rfl dX0_lose_35 rfl (Or.inl ⟨rfl, rfl⟩) (ihP (fun h => nomatch h) rfl) rfl ?_
  exact trivial
theorem tf_X0_lose : ∀ x ∈ tb_X0_lose, BOK mt 53 x.1 x.2 := tb_c mt_X0_lose bf_X0_lose_0 (tb_c mt_X0_lose bf_X0_lose_10 (tb_c mt_X0_lose bf_X0_lose_29 (tb_n)))
theorem bf_X3_lose_0 : BOKt mt tX3_lose 54 0 b_X3_lose_0 := by
  refine bplain (pc' := 1) rfl dX3_lose_0 rfl (ihN rfl) rfl ?_
  refine bcall (pc' := 4) rfl dX3_lose_1 rfl (trivial) (lcs (l := q2744) mt_X3_isRow ⟨by decide, by decide⟩ mok_X3_isRow rfl ln_222 (Or.inl q2743)) (ihN rfl) rfl ?_
  refine bjmp (tg := 10) (pc' := 7) rfl (by decide) (by decide) rfl dX3_lose_4 rfl (ihN rfl) rfl ?_
  refine bplain (pc' := 9) rfl dX3_lose_7 rfl (ihN rfl) rfl ?_
  refine bret (pc' := 10) rfl dX3_lose_9 rfl (Or.inl ⟨rfl, rfl⟩) (ihN rfl) rfl ?_
  exact trivial
theorem bf_X3_lose_10 : BOKt mt tX3_lose 54 10 b_X3_lose_10 := by
  refine bplain (pc' := 11) rfl dX3_lose_10 rfl (ihN rfl) rfl ?_
  refine bthr (pc' := 14) rfl dX3_lose_11 rfl (lkf0 q2597 lf_145) (trivial) (ihN rfl) rfl ?_
  refine bplain (pc' := 15) rfl dX3_lose_14 rfl (ihN rfl) rfl ?_
  refine bplain (pc' := 16) rfl dX3_lose_15 rfl (ihN rfl) rfl ?_
  refine bplain (pc' := 17) rfl dX3_lose_16 rfl (ihN rfl) rfl ?_
  refine bjmp (tg := 26) (pc' := 20) rfl (by decide) (by decide) rfl dX3_lose_17 rfl (ihN rfl) rfl ?_
  refine bplain (pc' := 21) rfl dX3_lose_20 rfl (ihN rfl) rfl ?_
  refine bplain (pc' := 22) rfl dX3_lose_21 rfl (ihN rfl) rfl ?_
  refine bcall (pc' := 25) rfl dX3_lose_22 rfl (trivial) (lcv (n := 1) rfl (pvc (lfv mt_X3_meets ⟨by decide, by decide⟩ mok_X3_meets ⟨by decide, by decide⟩ ⟨q2751, ln_225, Or.inl ⟨q2749, Or.inl qs63⟩⟩) (trivial)) (Or.inl (by decide))) (ihN rfl) rfl ?_
  refine bret (pc' := 26) rfl dX3_lose_25 rfl (Or.inl ⟨rfl, rfl⟩) (ihN rfl) rfl ?_
  exact trivial
theorem bf_X3_lose_26 : BOKt mt tX3_lose 54 26 b_X3_lose_26 := by
  refine bplain (pc' := 27) rfl dX3_lose_26 rfl (ihN rfl) rfl ?_
  refine bthr (pc' := 30) rfl dX3_lose_27 rfl (lkf0 q2597 lf_145) (trivial) (ihN rfl) rfl ?_
  refine bplain (pc' := 31) rfl dX3_lose_30 rfl (ihN rfl) rfl ?_
  refine bplain (pc' := 32) rfl dX3_lose_31 rfl (ihN rfl) rfl ?_
  refine bplain (pc' := 33) rfl dX3_lose_32 rfl (ihN rfl) rfl ?_
  refine bplain (pc' := 34) rfl dX3_lose_33 rfl (ihN rfl) rfl ?_
  refine bplain (pc' := 35) rfl dX3_lose_34 rfl (ihN rfl) rfl ?_
  exact bnop0 rfl (by decide)
theorem bf_X3_lose_35 : BOKt mt tX3_lose 54 35 b_X3_lose_35 := by
  refine bplain (pc' := 36) rfl dX3_lose_35 rfl (ihN rfl) rfl ?_
  refine bplain (pc' := 38) rfl dX3_lose_36 rfl (ihN rfl) rfl ?_
  refine bjmp (tg := 59) (pc' := 41) rfl (by decide) (by decide) rfl dX3_lose_38 rfl (ihN rfl) rfl ?_
  refine bplain (pc' := 42) rfl dX3_lose_41 rfl (ihN rfl) rfl ?_
  refine bthr (pc' := 45) rfl dX3_lose_42 rfl (lkf0 q2600 lf_151) (trivial) (ihN rfl) rfl ?_
  refine bplain (pc' := 47) rfl dX3_lose_45 rfl (ihN rfl) rfl ?_
  refine bplain (pc' := 48) rfl dX3_lose_47 rfl (ihN rfl) rfl ?_
  refine bplain (pc' := 49) rfl dX3_lose_48 rfl (ihN rfl) rfl ?_
  refine bplain (pc' := 50) rfl dX3_lose_49 rfl (ihN rfl) rfl ?_
  refine bplain (pc' := 51) rfl dX3_lose_50 rfl (ihN rfl) rfl ?_
  refine bplain (pc' := 52) rfl dX3_lose_51 rfl (ihN rfl) rfl ?_
  refine bplain (pc' := 53) rfl dX3_lose_52 rfl (ihN rfl) rfl ?_
  refine bplain (pc' := 56) rfl dX3_lose_53 rfl (ihN rfl) rfl ?_
  refine bjmp (tg := 35) (pc' := 59) rfl (by decide) (by decide) rfl dX3_lose_56 rfl (ihN rfl) rfl ?_
  exact trivial
theorem bf_X3_lose_59 : BOKt mt tX3_lose 54 59 b_X3_lose_59 := by
  refine bplain (pc' := 60) rfl dX3_lose_59 rfl (ihN rfl) rfl ?_
  refine bthr (pc' := 63) rfl dX3_lose_60 rfl (lkf0 q2598 lf_147) (trivial) (ihN rfl) rfl ?_
  refine bplain (pc' := 64) rfl dX3_lose_63 rfl (ihN rfl) rfl ?_
  refine bplain (pc' := 65) rfl dX3_lose_64 rfl (ihN rfl) rfl ?_
  refine bret (pc' := 66) rfl dX3_lose_65 rfl (Or.inl ⟨rfl, rfl⟩) (ihN rfl) rfl ?_
  exact trivial
theorem tf_X3_lose : ∀ x ∈ tb_X3_lose, BOK mt 54 x.1 x.2 := tb_c mt_X3_lose bf_X3_lose_0 (tb_c mt_X3_lose bf_X3_lose_10 (tb_c mt_X3_lose bf_X3_lose_26 (tb_c mt_X3_lose bf_X3_lose_35 (tb_c mt_X3_lose bf_X3_lose_59 (tb_n)))))
theorem bf_X4_lays_0 : BOKt mt tX4_lays 55 0 b_X4_lays_0 := by
  refine bplain (pc' := 1) rfl dX4_lays_0 rfl (ihN rfl) rfl ?_
  exact bsw rfl dX4_lays_1 (swt (by decide) (by decide) (by decide) (by decide) (by decide +kernel) (by decide +kernel)) (by decide +kernel) (ihN rfl)
theorem bf_X4_lays_32 : BOKt mt tX4_lays 55 32 b_X4_lays_32 := by
  refine bplain (pc' := 33) rfl dX4_lays_32 rfl (ihN rfl) rfl ?_
  refine bthr (pc' := 36) rfl dX4_lays_33 rfl (lkf0 q1225 lf_214) (trivial) (ihN rfl) rfl ?_
  refine bthr (pc' := 39) rfl dX4_lays_36 rfl (lkc (nm := "[S") q1320 lg_21 lb_229) (Or.inr (lkcN (nm := "[S") q1320 (by decide +kernel) (by decide +kernel) lb_229)) (ihN rfl) rfl ?_
  refine bplain (pc' := 40) rfl dX4_lays_39 rfl (ihN rfl) rfl ?_
  refine bplain (pc' := 41) rfl dX4_lays_40 rfl (ihN rfl) rfl ?_
  refine bplain (pc' := 42) rfl dX4_lays_41 rfl (ihN rfl) rfl ?_
  refine bplain (pc' := 43) rfl dX4_lays_42 rfl (ihN rfl) rfl ?_
  refine bjmp (tg := 115) (pc' := 46) rfl (by decide) (by decide) rfl dX4_lays_43 rfl (ihN rfl) rfl ?_
  exact trivial
theorem bf_X4_lays_46 : BOKt mt tX4_lays 55 46 b_X4_lays_46 := by
  refine bplain (pc' := 47) rfl dX4_lays_46 rfl (ihN rfl) rfl ?_
  refine bthr (pc' := 50) rfl dX4_lays_47 rfl (lkf0 q1225 lf_214) (trivial) (ihN rfl) rfl ?_
  refine bthr (pc' := 53) rfl dX4_lays_50 rfl (lkc (nm := "[I") q1321 lg_24 lb_230) (Or.inr (lkcN (nm := "[I") q1321 (by decide +kernel) (by decide +kernel) lb_230)) (ihN rfl) rfl ?_
  refine bplain (pc' := 54) rfl dX4_lays_53 rfl (ihN rfl) rfl ?_
  refine bplain (pc' := 55) rfl dX4_lays_54 rfl (ihN rfl) rfl ?_
  refine bplain (pc' := 56) rfl dX4_lays_55 rfl (ihN rfl) rfl ?_
  refine bjmp (tg := 115) (pc' := 59) rfl (by decide) (by decide) rfl dX4_lays_56 rfl (ihN rfl) rfl ?_
  exact trivial
theorem bf_X4_lays_59 : BOKt mt tX4_lays 55 59 b_X4_lays_59 := by
  refine bplain (pc' := 60) rfl dX4_lays_59 rfl (ihN rfl) rfl ?_
  refine bthr (pc' := 63) rfl dX4_lays_60 rfl (lkf0 q1225 lf_214) (trivial) (ihN rfl) rfl ?_
  refine bthr (pc' := 66) rfl dX4_lays_63 rfl (lkc (nm := "[F") q1322 lg_231 lb_232) (Or.inr (lkcN (nm := "[F") q1322 (by decide +kernel) (by decide +kernel) lb_232)) (ihN rfl) rfl ?_
  refine bplain (pc' := 67) rfl dX4_lays_66 rfl (ihN rfl) rfl ?_
  refine bplain (pc' := 68) rfl dX4_lays_67 rfl (ihN rfl) rfl ?_
  refine bplain (pc' := 69) rfl dX4_lays_68 rfl (ihN rfl) rfl ?_
  refine bobj (pc' := 71) rfl dX4_lays_69 rfl (lkl1 rfl q1323) (ihN rfl) rfl ?_
  refine bplain (pc' := 72) rfl dX4_lays_71 rfl (ihN rfl) rfl ?_
  refine bplain (pc' := 73) rfl dX4_lays_72 rfl (ihN rfl) rfl ?_
  refine bjmp (tg := 115) (pc' := 76) rfl (by decide) (by decide) rfl dX4_lays_73 rfl (ihN rfl) rfl ?_
  exact trivial
theorem bf_X4_lays_76 : BOKt mt tX4_lays 55 76 b_X4_lays_76 := by
  refine bplain (pc' := 77) rfl dX4_lays_76 rfl (ihN rfl) rfl ?_
  refine bthr (pc' := 80) rfl dX4_lays_77 rfl (lkf0 q1225 lf_214) (trivial) (ihN rfl) rfl ?_
  refine bthr (pc' := 83) rfl dX4_lays_80 rfl (lkc (nm := "[D") q1324 lg_233 lb_234) (Or.inr (lkcN (nm := "[D") q1324 (by decide +kernel) (by decide +kernel) lb_234)) (ihN rfl) rfl ?_
  refine bplain (pc' := 84) rfl dX4_lays_83 rfl (ihN rfl) rfl ?_
  refine bplain (pc' := 85) rfl dX4_lays_84 rfl (ihN rfl) rfl ?_
  refine bplain (pc' := 86) rfl dX4_lays_85 rfl (ihN rfl) rfl ?_
  refine bobj (pc' := 89) rfl dX4_lays_86 rfl (lkq1 rfl q1325) (ihN rfl) rfl ?_
  refine bplain (pc' := 90) rfl dX4_lays_89 rfl (ihN rfl) rfl ?_
  refine bplain (pc' := 91) rfl dX4_lays_90 rfl (ihN rfl) rfl ?_
  refine bjmp (tg := 115) (pc' := 94) rfl (by decide) (by decide) rfl dX4_lays_91 rfl (ihN rfl) rfl ?_
  exact trivial
theorem bf_X4_lays_94 : BOKt mt tX4_lays 55 94 b_X4_lays_94 := by
  refine bplain (pc' := 95) rfl dX4_lays_94 rfl (ihN rfl) rfl ?_
  refine bthr (pc' := 98) rfl dX4_lays_95 rfl (lkf0 q1225 lf_214) (trivial) (ihN rfl) rfl ?_
  refine bthr (pc' := 101) rfl dX4_lays_98 rfl (lkc (nm := "[Z") q1326 lg_235 lb_236) (Or.inr (lkcN (nm := "[Z") q1326 (by decide +kernel) (by decide +kernel) lb_236)) (ihN rfl) rfl ?_
  refine bplain (pc' := 102) rfl dX4_lays_101 rfl (ihN rfl) rfl ?_
  refine bplain (pc' := 103) rfl dX4_lays_102 rfl (ihN rfl) rfl ?_
  refine bplain (pc' := 104) rfl dX4_lays_103 rfl (ihN rfl) rfl ?_
  refine bplain (pc' := 105) rfl dX4_lays_104 rfl (ihN rfl) rfl ?_
  refine bplain (pc' := 106) rfl dX4_lays_105 rfl (ihN rfl) rfl ?_
  refine bjmp (tg := 113) (pc' := 109) rfl (by decide) (by decide) rfl dX4_lays_106 rfl (ihN rfl) rfl ?_
  refine bplain (pc' := 110) rfl dX4_lays_109 rfl (ihN rfl) rfl ?_
  refine bjmp (tg := 114) (pc' := 113) rfl (by decide) (by decide) rfl dX4_lays_110 rfl (ihN rfl) rfl ?_
  exact trivial
theorem bf_X4_lays_113 : BOKt mt tX4_lays 55 113 b_X4_lays_113 := by
  refine bplain (pc' := 114) rfl dX4_lays_113 rfl (ihN rfl) rfl ?_
  exact bnop0 rfl (by decide)
theorem bf_X4_lays_114 : BOKt mt tX4_lays 55 114 b_X4_lays_114 := by
  refine bnop1 ?_
  refine bplain (pc' := 115) rfl dX4_lays_114 rfl (ihN rfl) rfl ?_
  exact bnop0 rfl (by decide)
theorem bf_X4_lays_115 : BOKt mt tX4_lays 55 115 b_X4_lays_115 := by
  refine bnop1 ?_
  refine bret (pc' := 116) rfl dX4_lays_115 rfl (rfl) (ihN rfl) rfl ?_
  exact trivial
theorem tf_X4_lays : ∀ x ∈ tb_X4_lays, BOK mt 55 x.1 x.2 := tb_c mt_X4_lays bf_X4_lays_0 (tb_c mt_X4_lays bf_X4_lays_32 (tb_c mt_X4_lays bf_X4_lays_46 (tb_c mt_X4_lays bf_X4_lays_59 (tb_c mt_X4_lays bf_X4_lays_76 (tb_c mt_X4_lays bf_X4_lays_94 (tb_c mt_X4_lays bf_X4_lays_113 (tb_c mt_X4_lays bf_X4_lays_114 (tb_c mt_X4_lays bf_X4_lays_115 (tb_n)))))))))
theorem bf_X0_put_0 : BOKt mt tX0_put 56 0 b_X0_put_0 := by
  refine bplain (pc' := 1) rfl dX0_put_0 rfl (ihP (fun h => nomatch h) rfl) rfl ?_
  refine bcall (pc' := 4) rfl dX0_put_1 rfl (trivial) (lcs (l := q1210) mt_X0_isRow ⟨by decide, by decide⟩ mok_X0_isRow rfl ln_222 (Or.inl q1209)) (ihH (fun h => nomatch h) (hokN (by decide +kernel))) rfl ?_
  refine bjmp (tg := 19) (pc' := 7) rfl (by decide) (by decide) rfl dX0_put_4 rfl (ihP (fun h => nomatch h) rfl) rfl ?_
  refine bplain (pc' := 8) rfl dX0_put_7 rfl (ihP (fun h => nomatch h) rfl) rfl ?_
  refine bplain (pc' := 9) rfl dX0_put_8 rfl (ihP (fun h => nomatch h) rfl) rfl ?_
  refine bplain (pc' := 10) rfl dX0_put_9 rfl (ihP (fun h => nomatch h) rfl) rfl ?_
  refine bobj (pc' := 13) rfl dX0_put_10 rfl (lkq0 lc_223 q1216) (ihP (fun h => nomatch h) rfl) rfl ?_
  refine bcall (pc' := 16) rfl dX0_put_13 rfl (trivial) (lcs (l := q1214) mt_X0_in ⟨by decide, by decide⟩ mok_X0_in rfl ln_210 (Or.inl q1213)) (ihH (fun h => nomatch h) (hokN (by decide +kernel))) rfl ?_
  refine bjmp (tg := 22) (pc' := 19) rfl (by decide) (by decide) rfl dX0_put_16 rfl (ihP (fun h => nomatch h) rfl) rfl ?_
  exact bnop0 rfl (by decide)
theorem bf_X0_put_19 : BOKt mt tX0_put 56 19 b_X0_put_19 := by
  refine bnop1 ?_
  refine bplain (pc' := 21) rfl dX0_put_19 rfl (ihP (fun h => nomatch h) rfl) rfl ?_
  refine bret (pc' := 22) rfl dX0_put_21 rfl (Or.inl ⟨rfl, rfl⟩) (ihP (fun h => nomatch h) rfl) rfl ?_
  exact trivial
theorem bf_X0_put_22 : BOKt mt tX0_put 56 22 b_X0_put_22 := by
  refine bplain (pc' := 23) rfl dX0_put_22 rfl (ihP (fun h => nomatch h) rfl) rfl ?_
  refine bthr (pc' := 26) rfl dX0_put_23 rfl (lkf0 q1112 lf_113) (trivial) (ihP (fun h => nomatch h) rfl) rfl ?_
  refine bplain (pc' := 27) rfl dX0_put_26 rfl (ihP (fun h => nomatch h) rfl) rfl ?_
  refine bplain (pc' := 28) rfl dX0_put_27 rfl (ihP (fun h => nomatch h) rfl) rfl ?_
  refine bplain (pc' := 29) rfl dX0_put_28 rfl (ihP (fun h => nomatch h) rfl) rfl ?_
  refine bplain (pc' := 30) rfl dX0_put_29 rfl (ihP (fun h => nomatch h) rfl) rfl ?_
  refine bplain (pc' := 32) rfl dX0_put_30 rfl (ihP (fun h => nomatch h) rfl) rfl ?_
  refine bcall (pc' := 35) rfl dX0_put_32 rfl (trivial) (lcv (n := 3) rfl (pvc (lfv mt_X4_lays ⟨by decide, by decide⟩ mok_X4_lays ⟨by decide, by decide⟩ ⟨q1317, ln_237, Or.inl ⟨q1316, Or.inl q1318⟩⟩) (trivial)) (Or.inr ⟨⟨"StrideTurns$Row", "lays", "(III)V"⟩, _, _, _, "StrideTurns$Row", q1316, q1317, q1319, q1318, lv_238, ln_237⟩)) (ihH (fun h => nomatch h) (hokH (all6 (hk1s (k := 1) (pre := (tableOf [(22, 36, 37, 124), (22, 36, 45, 130), (22, 36, 53, 132)]).take 0) (suf := (tableOf [(22, 36, 37, 124), (22, 36, 45, 130), (22, 36, 53, 132)]).drop 1) (name := "java/lang/NullPointerException") rfl (trivial) rfl rfl q1254 q1276 (by decide) rfl) (hk1s (k := 2) (pre := (tableOf [(22, 36, 37, 124), (22, 36, 45, 130), (22, 36, 53, 132)]).take 1) (suf := (tableOf [(22, 36, 37, 124), (22, 36, 45, 130), (22, 36, 53, 132)]).drop 2) (name := "java/lang/ClassCastException") rfl (⟨xps_x (nm := "java/lang/NullPointerException") rfl q1254 (List.mem_of_getElem? (i := 28) rfl), trivial⟩) rfl rfl q1283 q1295 (by decide) rfl) (hk1s (k := 3) (pre := (tableOf [(22, 36, 37, 124), (22, 36, 45, 130), (22, 36, 53, 132)]).take 2) (suf := (tableOf [(22, 36, 37, 124), (22, 36, 45, 130), (22, 36, 53, 132)]).drop 3) (name := "java/lang/ArrayIndexOutOfBoundsException") rfl (⟨xps_x (nm := "java/lang/NullPointerException") rfl q1254 (List.mem_of_getElem? (i := 34) rfl), ⟨xps_x (nm := "java/lang/ClassCastException") rfl q1283 (List.mem_of_getElem? (i := 35) rfl), trivial⟩⟩) rfl rfl q1297 q1312 (by decide) rfl) (hk1n (⟨xps_x (nm := "java/lang/NullPointerException") rfl q1254 (List.mem_of_getElem? (i := 39) rfl), ⟨xps_x (nm := "java/lang/ClassCastException") rfl q1283 (List.mem_of_getElem? (i := 40) rfl), ⟨xps_x (nm := "java/lang/ArrayIndexOutOfBoundsException") rfl q1297 (List.mem_of_getElem? (i := 41) rfl), trivial⟩⟩⟩)) (hk1n (⟨xps_x (nm := "java/lang/NullPointerException") rfl q1254 (List.mem_of_getElem? (i := 45) rfl), ⟨xps_x (nm := "java/lang/ClassCastException") rfl q1283 (List.mem_of_getElem? (i := 46) rfl), ⟨xps_x (nm := "java/lang/ArrayIndexOutOfBoundsException") rfl q1297 (List.mem_of_getElem? (i := 47) rfl), trivial⟩⟩⟩)) (hk1n (⟨xps_x (nm := "java/lang/NullPointerException") rfl q1254 (List.mem_of_getElem? (i := 51) rfl), ⟨xps_x (nm := "java/lang/ClassCastException") rfl q1283 (List.mem_of_getElem? (i := 52) rfl), ⟨xps_x (nm := "java/lang/ArrayIndexOutOfBoundsException") rfl q1297 (List.mem_of_getElem? (i := 53) rfl), trivial⟩⟩⟩))))) rfl ?_
  refine bplain (pc' := 36) rfl dX0_put_35 rfl (ihP (fun h => nomatch h) rfl) rfl ?_
  refine bret (pc' := 37) rfl dX0_put_36 rfl (Or.inl ⟨rfl, rfl⟩) (ihP (fun h => nomatch h) rfl) rfl ?_
  exact trivial
theorem bf_X0_put_37 : BOKt mt tX0_put 56 37 b_X0_put_37 := by
  refine bplain (pc' := 39) rfl dX0_put_37 rfl (ihP (fun h => nomatch h) rfl) rfl ?_
  refine bplain (pc' := 40) rfl dX0_put_39 rfl (ihP (fun h => nomatch h) rfl) rfl ?_
  refine bplain (pc' := 41) rfl dX0_put_40 rfl (ihP (fun h => nomatch h) rfl) rfl ?_
  refine bcall (pc' := 44) rfl dX0_put_41 rfl (trivial) (lcv (n := 1) rfl (pvc (lfv mt_X0_finds ⟨by decide, by decide⟩ mok_X0_finds ⟨by decide, by decide⟩ ⟨q1248, ln_225, Or.inl ⟨q1246, Or.inl qs4⟩⟩) (trivial)) (Or.inl (by decide))) (ihH (fun h => nomatch h) (hokN (by decide +kernel))) rfl ?_
  refine bret (pc' := 45) rfl dX0_put_44 rfl (Or.inl ⟨rfl, rfl⟩) (ihP (fun h => nomatch h) rfl) rfl ?_
  exact trivial
theorem bf_X0_put_45 : BOKt mt tX0_put 56 45 b_X0_put_45 := by
  refine bplain (pc' := 47) rfl dX0_put_45 rfl (ihP (fun h => nomatch h) rfl) rfl ?_
  refine bplain (pc' := 48) rfl dX0_put_47 rfl (ihP (fun h => nomatch h) rfl) rfl ?_
  refine bplain (pc' := 49) rfl dX0_put_48 rfl (ihP (fun h => nomatch h) rfl) rfl ?_
  refine bcall (pc' := 52) rfl dX0_put_49 rfl (trivial) (lcv (n := 1) rfl (pvc (lfv mt_X0_finds ⟨by decide, by decide⟩ mok_X0_finds ⟨by decide, by decide⟩ ⟨q1248, ln_225, Or.inl ⟨q1246, Or.inl qs4⟩⟩) (trivial)) (Or.inl (by decide))) (ihH (fun h => nomatch h) (hokN (by decide +kernel))) rfl ?_
  refine bret (pc' := 53) rfl dX0_put_52 rfl (Or.inl ⟨rfl, rfl⟩) (ihP (fun h => nomatch h) rfl) rfl ?_
  exact trivial
theorem bf_X0_put_53 : BOKt mt tX0_put 56 53 b_X0_put_53 := by
  refine bplain (pc' := 55) rfl dX0_put_53 rfl (ihP (fun h => nomatch h) rfl) rfl ?_
  refine bplain (pc' := 56) rfl dX0_put_55 rfl (ihP (fun h => nomatch h) rfl) rfl ?_
  refine bplain (pc' := 57) rfl dX0_put_56 rfl (ihP (fun h => nomatch h) rfl) rfl ?_
  refine bcall (pc' := 60) rfl dX0_put_57 rfl (trivial) (lcv (n := 1) rfl (pvc (lfv mt_X0_finds ⟨by decide, by decide⟩ mok_X0_finds ⟨by decide, by decide⟩ ⟨q1248, ln_225, Or.inl ⟨q1246, Or.inl qs4⟩⟩) (trivial)) (Or.inl (by decide))) (ihH (fun h => nomatch h) (hokN (by decide +kernel))) rfl ?_
  refine bret (pc' := 61) rfl dX0_put_60 rfl (Or.inl ⟨rfl, rfl⟩) (ihP (fun h => nomatch h) rfl) rfl ?_
  exact trivial
theorem tf_X0_put : ∀ x ∈ tb_X0_put, BOK mt 56 x.1 x.2 := tb_c mt_X0_put bf_X0_put_0 (tb_c mt_X0_put bf_X0_put_19 (tb_c mt_X0_put bf_X0_put_22 (tb_c mt_X0_put bf_X0_put_37 (tb_c mt_X0_put bf_X0_put_45 (tb_c mt_X0_put bf_X0_put_53 (tb_n))))))
theorem bf_X3_put_0 : BOKt mt tX3_put 57 0 b_X3_put_0 := by
  refine bplain (pc' := 1) rfl dX3_put_0 rfl (ihN rfl) rfl ?_
  refine bcall (pc' := 4) rfl dX3_put_1 rfl (trivial) (lcs (l := q2744) mt_X3_isRow ⟨by decide, by decide⟩ mok_X3_isRow rfl ln_222 (Or.inl q2743)) (ihN rfl) rfl ?_
  refine bjmp (tg := 16) (pc' := 7) rfl (by decide) (by decide) rfl dX3_put_4 rfl (ihN rfl) rfl ?_
  refine bplain (pc' := 8) rfl dX3_put_7 rfl (ihN rfl) rfl ?_
  refine bplain (pc' := 9) rfl dX3_put_8 rfl (ihN rfl) rfl ?_
  refine bplain (pc' := 10) rfl dX3_put_9 rfl (ihN rfl) rfl ?_
  refine bcall (pc' := 13) rfl dX3_put_10 rfl (trivial) (lcs (l := q2747) mt_X3_in ⟨by decide, by decide⟩ mok_X3_in rfl ln_226 (Or.inl q2746)) (ihN rfl) rfl ?_
  refine bjmp (tg := 19) (pc' := 16) rfl (by decide) (by decide) rfl dX3_put_13 rfl (ihN rfl) rfl ?_
  exact bnop0 rfl (by decide)
theorem bf_X3_put_16 : BOKt mt tX3_put 57 16 b_X3_put_16 := by
  refine bnop1 ?_
  refine bplain (pc' := 18) rfl dX3_put_16 rfl (ihN rfl) rfl ?_
  refine bret (pc' := 19) rfl dX3_put_18 rfl (Or.inl ⟨rfl, rfl⟩) (ihN rfl) rfl ?_
  exact trivial
theorem bf_X3_put_19 : BOKt mt tX3_put 57 19 b_X3_put_19 := by
  refine bplain (pc' := 20) rfl dX3_put_19 rfl (ihN rfl) rfl ?_
  refine bthr (pc' := 23) rfl dX3_put_20 rfl (lkf0 q2597 lf_145) (trivial) (ihN rfl) rfl ?_
  refine bplain (pc' := 24) rfl dX3_put_23 rfl (ihN rfl) rfl ?_
  refine bplain (pc' := 25) rfl dX3_put_24 rfl (ihN rfl) rfl ?_
  refine bplain (pc' := 26) rfl dX3_put_25 rfl (ihN rfl) rfl ?_
  refine bjmp (tg := 33) (pc' := 29) rfl (by decide) (by decide) rfl dX3_put_26 rfl (ihN rfl) rfl ?_
  refine bplain (pc' := 30) rfl dX3_put_29 rfl (ihN rfl) rfl ?_
  refine bjmp (tg := 68) (pc' := 33) rfl (by decide) (by decide) rfl dX3_put_30 rfl (ihN rfl) rfl ?_
  exact trivial
theorem bf_X3_put_33 : BOKt mt tX3_put 57 33 b_X3_put_33 := by
  refine bplain (pc' := 34) rfl dX3_put_33 rfl (ihN rfl) rfl ?_
  refine bthr (pc' := 37) rfl dX3_put_34 rfl (lkf0 q2597 lf_145) (trivial) (ihN rfl) rfl ?_
  refine bplain (pc' := 38) rfl dX3_put_37 rfl (ihN rfl) rfl ?_
  refine bplain (pc' := 39) rfl dX3_put_38 rfl (ihN rfl) rfl ?_
  refine bplain (pc' := 40) rfl dX3_put_39 rfl (ihN rfl) rfl ?_
  refine bjmp (tg := 47) (pc' := 43) rfl (by decide) (by decide) rfl dX3_put_40 rfl (ihN rfl) rfl ?_
  refine bplain (pc' := 44) rfl dX3_put_43 rfl (ihN rfl) rfl ?_
  refine bjmp (tg := 68) (pc' := 47) rfl (by decide) (by decide) rfl dX3_put_44 rfl (ihN rfl) rfl ?_
  exact trivial
theorem bf_X3_put_47 : BOKt mt tX3_put 57 47 b_X3_put_47 := by
  refine bplain (pc' := 48) rfl dX3_put_47 rfl (ihN rfl) rfl ?_
  refine bplain (pc' := 49) rfl dX3_put_48 rfl (ihN rfl) rfl ?_
  refine bplain (pc' := 50) rfl dX3_put_49 rfl (ihN rfl) rfl ?_
  refine bthr (pc' := 53) rfl dX3_put_50 rfl (lkf0 q2598 lf_147) (trivial) (ihN rfl) rfl ?_
  refine bplain (pc' := 54) rfl dX3_put_53 rfl (ihN rfl) rfl ?_
  refine bplain (pc' := 55) rfl dX3_put_54 rfl (ihN rfl) rfl ?_
  refine bplain (pc' := 56) rfl dX3_put_55 rfl (ihN rfl) rfl ?_
  refine bplain (pc' := 57) rfl dX3_put_56 rfl (ihN rfl) rfl ?_
  refine bcall (pc' := 60) rfl dX3_put_57 rfl (trivial) (lcs (l := q2747) mt_X3_in ⟨by decide, by decide⟩ mok_X3_in rfl ln_226 (Or.inl q2746)) (ihN rfl) rfl ?_
  refine bjmp (tg := 67) (pc' := 63) rfl (by decide) (by decide) rfl dX3_put_60 rfl (ihN rfl) rfl ?_
  refine bplain (pc' := 64) rfl dX3_put_63 rfl (ihN rfl) rfl ?_
  refine bjmp (tg := 68) (pc' := 67) rfl (by decide) (by decide) rfl dX3_put_64 rfl (ihN rfl) rfl ?_
  exact trivial
theorem bf_X3_put_67 : BOKt mt tX3_put 57 67 b_X3_put_67 := by
  refine bplain (pc' := 68) rfl dX3_put_67 rfl (ihN rfl) rfl ?_
  exact bnop0 rfl (by decide)
theorem bf_X3_put_68 : BOKt mt tX3_put 57 68 b_X3_put_68 := by
  refine bnop1 ?_
  refine bplain (pc' := 70) rfl dX3_put_68 rfl (ihN rfl) rfl ?_
  refine bplain (pc' := 72) rfl dX3_put_70 rfl (ihN rfl) rfl ?_
  refine bjmp (tg := 82) (pc' := 75) rfl (by decide) (by decide) rfl dX3_put_72 rfl (ihN rfl) rfl ?_
  refine bplain (pc' := 76) rfl dX3_put_75 rfl (ihN rfl) rfl ?_
  refine bplain (pc' := 78) rfl dX3_put_76 rfl (ihN rfl) rfl ?_
  refine bcall (pc' := 81) rfl dX3_put_78 rfl (trivial) (lcv (n := 1) rfl (pvc (lfv mt_X3_meets ⟨by decide, by decide⟩ mok_X3_meets ⟨by decide, by decide⟩ ⟨q2751, ln_225, Or.inl ⟨q2749, Or.inl qs63⟩⟩) (trivial)) (Or.inl (by decide))) (ihN rfl) rfl ?_
  refine bret (pc' := 82) rfl dX3_put_81 rfl (Or.inl ⟨rfl, rfl⟩) (ihN rfl) rfl ?_
  exact trivial
theorem bf_X3_put_82 : BOKt mt tX3_put 57 82 b_X3_put_82 := by
  refine bplain (pc' := 83) rfl dX3_put_82 rfl (ihN rfl) rfl ?_
  refine bthr (pc' := 86) rfl dX3_put_83 rfl (lkf0 q2599 lf_149) (trivial) (ihN rfl) rfl ?_
  refine bplain (pc' := 88) rfl dX3_put_86 rfl (ihN rfl) rfl ?_
  refine bplain (pc' := 89) rfl dX3_put_88 rfl (ihN rfl) rfl ?_
  refine bplain (pc' := 90) rfl dX3_put_89 rfl (ihN rfl) rfl ?_
  refine bplain (pc' := 91) rfl dX3_put_90 rfl (ihN rfl) rfl ?_
  refine bplain (pc' := 92) rfl dX3_put_91 rfl (ihN rfl) rfl ?_
  refine bplain (pc' := 93) rfl dX3_put_92 rfl (ihN rfl) rfl ?_
  refine bjmp (tg := 103) (pc' := 96) rfl (by decide) (by decide) rfl dX3_put_93 rfl (ihN rfl) rfl ?_
  refine bplain (pc' := 98) rfl dX3_put_96 rfl (ihN rfl) rfl ?_
  refine bplain (pc' := 99) rfl dX3_put_98 rfl (ihN rfl) rfl ?_
  refine bplain (pc' := 100) rfl dX3_put_99 rfl (ihN rfl) rfl ?_
  refine bjmp (tg := 149) (pc' := 103) rfl (by decide) (by decide) rfl dX3_put_100 rfl (ihN rfl) rfl ?_
  exact trivial
theorem bf_X3_put_103 : BOKt mt tX3_put 57 103 b_X3_put_103 := by
  refine bplain (pc' := 104) rfl dX3_put_103 rfl (ihN rfl) rfl ?_
  refine bplain (pc' := 105) rfl dX3_put_104 rfl (ihN rfl) rfl ?_
  refine bjmp (tg := 114) (pc' := 108) rfl (by decide) (by decide) rfl dX3_put_105 rfl (ihN rfl) rfl ?_
  refine bplain (pc' := 110) rfl dX3_put_108 rfl (ihN rfl) rfl ?_
  refine bplain (pc' := 111) rfl dX3_put_110 rfl (ihN rfl) rfl ?_
  refine bjmp (tg := 149) (pc' := 114) rfl (by decide) (by decide) rfl dX3_put_111 rfl (ihN rfl) rfl ?_
  exact trivial
theorem bf_X3_put_114 : BOKt mt tX3_put 57 114 b_X3_put_114 := by
  refine bplain (pc' := 115) rfl dX3_put_114 rfl (ihN rfl) rfl ?_
  refine bplain (pc' := 116) rfl dX3_put_115 rfl (ihN rfl) rfl ?_
  refine bjmp (tg := 129) (pc' := 119) rfl (by decide) (by decide) rfl dX3_put_116 rfl (ihN rfl) rfl ?_
  refine bplain (pc' := 121) rfl dX3_put_119 rfl (ihN rfl) rfl ?_
  refine bplain (pc' := 122) rfl dX3_put_121 rfl (ihN rfl) rfl ?_
  refine bobj (pc' := 124) rfl dX3_put_122 rfl (lkl1 rfl q2761) (ihN rfl) rfl ?_
  refine bplain (pc' := 125) rfl dX3_put_124 rfl (ihN rfl) rfl ?_
  refine bplain (pc' := 126) rfl dX3_put_125 rfl (ihN rfl) rfl ?_
  refine bjmp (tg := 149) (pc' := 129) rfl (by decide) (by decide) rfl dX3_put_126 rfl (ihN rfl) rfl ?_
  exact trivial
theorem bf_X3_put_129 : BOKt mt tX3_put 57 129 b_X3_put_129 := by
  refine bplain (pc' := 130) rfl dX3_put_129 rfl (ihN rfl) rfl ?_
  refine bplain (pc' := 131) rfl dX3_put_130 rfl (ihN rfl) rfl ?_
  refine bjmp (tg := 144) (pc' := 134) rfl (by decide) (by decide) rfl dX3_put_131 rfl (ihN rfl) rfl ?_
  refine bplain (pc' := 136) rfl dX3_put_134 rfl (ihN rfl) rfl ?_
  refine bplain (pc' := 137) rfl dX3_put_136 rfl (ihN rfl) rfl ?_
  refine bobj (pc' := 140) rfl dX3_put_137 rfl (lkq1 rfl q2762) (ihN rfl) rfl ?_
  refine bplain (pc' := 141) rfl dX3_put_140 rfl (ihN rfl) rfl ?_
  refine bjmp (tg := 149) (pc' := 144) rfl (by decide) (by decide) rfl dX3_put_141 rfl (ihN rfl) rfl ?_
  exact trivial
theorem bf_X3_put_144 : BOKt mt tX3_put 57 144 b_X3_put_144 := by
  refine bplain (pc' := 146) rfl dX3_put_144 rfl (ihN rfl) rfl ?_
  refine bplain (pc' := 147) rfl dX3_put_146 rfl (ihN rfl) rfl ?_
  refine bplain (pc' := 148) rfl dX3_put_147 rfl (ihN rfl) rfl ?_
  refine bplain (pc' := 149) rfl dX3_put_148 rfl (ihN rfl) rfl ?_
  exact bnop0 rfl (by decide)
theorem bf_X3_put_149 : BOKt mt tX3_put 57 149 b_X3_put_149 := by
  refine bnop1 ?_
  refine bplain (pc' := 150) rfl dX3_put_149 rfl (ihN rfl) rfl ?_
  refine bplain (pc' := 151) rfl dX3_put_150 rfl (ihN rfl) rfl ?_
  refine bret (pc' := 152) rfl dX3_put_151 rfl (Or.inl ⟨rfl, rfl⟩) (ihN rfl) rfl ?_
  exact trivial
theorem tf_X3_put : ∀ x ∈ tb_X3_put, BOK mt 57 x.1 x.2 := tb_c mt_X3_put bf_X3_put_0 (tb_c mt_X3_put bf_X3_put_16 (tb_c mt_X3_put bf_X3_put_19 (tb_c mt_X3_put bf_X3_put_33 (tb_c mt_X3_put bf_X3_put_47 (tb_c mt_X3_put bf_X3_put_67 (tb_c mt_X3_put bf_X3_put_68 (tb_c mt_X3_put bf_X3_put_82 (tb_c mt_X3_put bf_X3_put_103 (tb_c mt_X3_put bf_X3_put_114 (tb_c mt_X3_put bf_X3_put_129 (tb_c mt_X3_put bf_X3_put_144 (tb_c mt_X3_put bf_X3_put_149 (tb_n)))))))))))))
theorem bf_X0_no_0 : BOKt mt tX0_no 58 0 b_X0_no_0 := by
  refine bobj (pc' := 3) rfl dX0_no_0 rfl (lkq0 lc_239 q1334) (ihN rfl) rfl ?_
  refine bplain (pc' := 4) rfl dX0_no_3 rfl (ihN rfl) rfl ?_
  refine bplain (pc' := 5) rfl dX0_no_4 rfl (ihN rfl) rfl ?_
  refine bplain (pc' := 6) rfl dX0_no_5 rfl (ihN rfl) rfl ?_
  refine bret (pc' := 7) rfl dX0_no_6 rfl (rfl) (ihN rfl) rfl ?_
  exact trivial
theorem tf_X0_no : ∀ x ∈ tb_X0_no, BOK mt 58 x.1 x.2 := tb_c mt_X0_no bf_X0_no_0 (tb_n)
theorem bf_J27_isNaN_0 : BOKt mt tJ27_isNaN 59 0 b_J27_isNaN_0 := by
  refine bplain (pc' := 1) rfl dJ27_isNaN_0 rfl (ihN rfl) rfl ?_
  refine bplain (pc' := 2) rfl dJ27_isNaN_1 rfl (ihN rfl) rfl ?_
  refine bplain (pc' := 3) rfl dJ27_isNaN_2 rfl (ihN rfl) rfl ?_
  refine bjmp (tg := 10) (pc' := 6) rfl (by decide) (by decide) rfl dJ27_isNaN_3 rfl (ihN rfl) rfl ?_
  refine bplain (pc' := 7) rfl dJ27_isNaN_6 rfl (ihN rfl) rfl ?_
  refine bjmp (tg := 11) (pc' := 10) rfl (by decide) (by decide) rfl dJ27_isNaN_7 rfl (ihN rfl) rfl ?_
  exact trivial
theorem bf_J27_isNaN_10 : BOKt mt tJ27_isNaN 59 10 b_J27_isNaN_10 := by
  refine bplain (pc' := 11) rfl dJ27_isNaN_10 rfl (ihN rfl) rfl ?_
  exact bnop0 rfl (by decide)
theorem bf_J27_isNaN_11 : BOKt mt tJ27_isNaN 59 11 b_J27_isNaN_11 := by
  refine bnop1 ?_
  refine bret (pc' := 12) rfl dJ27_isNaN_11 rfl (Or.inr ⟨rfl, rfl⟩) (ihN rfl) rfl ?_
  exact trivial
theorem tf_J27_isNaN : ∀ x ∈ tb_J27_isNaN, BOK mt 59 x.1 x.2 := tb_c mt_J27_isNaN bf_J27_isNaN_0 (tb_c mt_J27_isNaN bf_J27_isNaN_10 (tb_c mt_J27_isNaN bf_J27_isNaN_11 (tb_n)))
theorem bf_J27_floatToIntBits_0 : BOKt mt tJ27_floatToIntBits 60 0 b_J27_floatToIntBits_0 := by
  refine bplain (pc' := 1) rfl dJ27_floatToIntBits_0 rfl (ihN rfl) rfl ?_
  refine bcall (pc' := 4) rfl dJ27_floatToIntBits_1 rfl (trivial) (lcs (l := q1343) mt_J27_isNaN ⟨by decide, by decide⟩ mok_J27_isNaN rfl ln_240 (Or.inl q1342)) (ihN rfl) rfl ?_
  refine bjmp (tg := 12) (pc' := 7) rfl (by decide) (by decide) rfl dJ27_floatToIntBits_4 rfl (ihN rfl) rfl ?_
  refine bplain (pc' := 8) rfl dJ27_floatToIntBits_7 rfl (ihN rfl) rfl ?_
  refine bcall (pc' := 11) rfl dJ27_floatToIntBits_8 rfl (⟨q1345, q1347, q1346, q168⟩) (Or.inl rfl) (ihN rfl) rfl ?_
  refine bret (pc' := 12) rfl dJ27_floatToIntBits_11 rfl (Or.inl ⟨rfl, rfl⟩) (ihN rfl) rfl ?_
  exact trivial
theorem bf_J27_floatToIntBits_12 : BOKt mt tJ27_floatToIntBits 60 12 b_J27_floatToIntBits_12 := by
  refine bobj (pc' := 14) rfl dJ27_floatToIntBits_12 rfl (lkl0 lc_241 q1348) (ihN rfl) rfl ?_
  refine bret (pc' := 15) rfl dJ27_floatToIntBits_14 rfl (Or.inl ⟨rfl, rfl⟩) (ihN rfl) rfl ?_
  exact trivial
theorem tf_J27_floatToIntBits : ∀ x ∈ tb_J27_floatToIntBits, BOK mt 60 x.1 x.2 := tb_c mt_J27_floatToIntBits bf_J27_floatToIntBits_0 (tb_c mt_J27_floatToIntBits bf_J27_floatToIntBits_12 (tb_n))
theorem bf_J28_isNaN_0 : BOKt mt tJ28_isNaN 61 0 b_J28_isNaN_0 := by
  refine bplain (pc' := 1) rfl dJ28_isNaN_0 rfl (ihN rfl) rfl ?_
  refine bplain (pc' := 2) rfl dJ28_isNaN_1 rfl (ihN rfl) rfl ?_
  refine bplain (pc' := 3) rfl dJ28_isNaN_2 rfl (ihN rfl) rfl ?_
  refine bjmp (tg := 10) (pc' := 6) rfl (by decide) (by decide) rfl dJ28_isNaN_3 rfl (ihN rfl) rfl ?_
  refine bplain (pc' := 7) rfl dJ28_isNaN_6 rfl (ihN rfl) rfl ?_
  refine bjmp (tg := 11) (pc' := 10) rfl (by decide) (by decide) rfl dJ28_isNaN_7 rfl (ihN rfl) rfl ?_
  exact trivial
theorem bf_J28_isNaN_10 : BOKt mt tJ28_isNaN 61 10 b_J28_isNaN_10 := by
  refine bplain (pc' := 11) rfl dJ28_isNaN_10 rfl (ihN rfl) rfl ?_
  exact bnop0 rfl (by decide)
theorem bf_J28_isNaN_11 : BOKt mt tJ28_isNaN 61 11 b_J28_isNaN_11 := by
  refine bnop1 ?_
  refine bret (pc' := 12) rfl dJ28_isNaN_11 rfl (Or.inr ⟨rfl, rfl⟩) (ihN rfl) rfl ?_
  exact trivial
theorem tf_J28_isNaN : ∀ x ∈ tb_J28_isNaN, BOK mt 61 x.1 x.2 := tb_c mt_J28_isNaN bf_J28_isNaN_0 (tb_c mt_J28_isNaN bf_J28_isNaN_10 (tb_c mt_J28_isNaN bf_J28_isNaN_11 (tb_n)))
theorem bf_J28_doubleToLongBits_0 : BOKt mt tJ28_doubleToLongBits 62 0 b_J28_doubleToLongBits_0 := by
  refine bplain (pc' := 1) rfl dJ28_doubleToLongBits_0 rfl (ihN rfl) rfl ?_
  refine bcall (pc' := 4) rfl dJ28_doubleToLongBits_1 rfl (trivial) (lcs (l := q1353) mt_J28_isNaN ⟨by decide, by decide⟩ mok_J28_isNaN rfl ln_242 (Or.inl q1352)) (ihN rfl) rfl ?_
  refine bjmp (tg := 12) (pc' := 7) rfl (by decide) (by decide) rfl dJ28_doubleToLongBits_4 rfl (ihN rfl) rfl ?_
  refine bplain (pc' := 8) rfl dJ28_doubleToLongBits_7 rfl (ihN rfl) rfl ?_
  refine bcall (pc' := 11) rfl dJ28_doubleToLongBits_8 rfl (⟨q1355, q1357, q1356, q169⟩) (Or.inl rfl) (ihN rfl) rfl ?_
  refine bret (pc' := 12) rfl dJ28_doubleToLongBits_11 rfl (rfl) (ihN rfl) rfl ?_
  exact trivial
theorem bf_J28_doubleToLongBits_12 : BOKt mt tJ28_doubleToLongBits 62 12 b_J28_doubleToLongBits_12 := by
  refine bobj (pc' := 15) rfl dJ28_doubleToLongBits_12 rfl (lkq0 lc_243 q1358) (ihN rfl) rfl ?_
  refine bret (pc' := 16) rfl dJ28_doubleToLongBits_15 rfl (rfl) (ihN rfl) rfl ?_
  exact trivial
theorem tf_J28_doubleToLongBits : ∀ x ∈ tb_J28_doubleToLongBits, BOK mt 62 x.1 x.2 := tb_c mt_J28_doubleToLongBits bf_J28_doubleToLongBits_0 (tb_c mt_J28_doubleToLongBits bf_J28_doubleToLongBits_12 (tb_n))
theorem bf_X4_tells_0 : BOKt mt tX4_tells 63 0 b_X4_tells_0 := by
  refine bplain (pc' := 1) rfl dX4_tells_0 rfl (ihN rfl) rfl ?_
  refine bthr (pc' := 4) rfl dX4_tells_1 rfl (lkf0 q1227 lf_211) (trivial) (ihN rfl) rfl ?_
  exact bsw rfl dX4_tells_4 (swt (by decide) (by decide) (by decide) (by decide) (by decide +kernel) (by decide +kernel)) (by decide +kernel) (ihN rfl)
theorem bf_X4_tells_36 : BOKt mt tX4_tells 63 36 b_X4_tells_36 := by
  refine bplain (pc' := 37) rfl dX4_tells_36 rfl (ihN rfl) rfl ?_
  refine bthr (pc' := 40) rfl dX4_tells_37 rfl (lkf0 q1225 lf_214) (trivial) (ihN rfl) rfl ?_
  refine bthr (pc' := 43) rfl dX4_tells_40 rfl (lkc (nm := "[S") q1320 lg_21 lb_22) (Or.inl rfl) (ihN rfl) rfl ?_
  refine bplain (pc' := 44) rfl dX4_tells_43 rfl (ihN rfl) rfl ?_
  refine bplain (pc' := 45) rfl dX4_tells_44 rfl (ihN rfl) rfl ?_
  refine bplain (pc' := 46) rfl dX4_tells_45 rfl (ihN rfl) rfl ?_
  refine bret (pc' := 47) rfl dX4_tells_46 rfl (rfl) (ihN rfl) rfl ?_
  exact trivial
theorem bf_X4_tells_47 : BOKt mt tX4_tells 63 47 b_X4_tells_47 := by
  refine bplain (pc' := 48) rfl dX4_tells_47 rfl (ihN rfl) rfl ?_
  refine bthr (pc' := 51) rfl dX4_tells_48 rfl (lkf0 q1225 lf_214) (trivial) (ihN rfl) rfl ?_
  refine bthr (pc' := 54) rfl dX4_tells_51 rfl (lkc (nm := "[I") q1321 lg_24 lb_25) (Or.inl rfl) (ihN rfl) rfl ?_
  refine bplain (pc' := 55) rfl dX4_tells_54 rfl (ihN rfl) rfl ?_
  refine bplain (pc' := 56) rfl dX4_tells_55 rfl (ihN rfl) rfl ?_
  refine bplain (pc' := 57) rfl dX4_tells_56 rfl (ihN rfl) rfl ?_
  refine bret (pc' := 58) rfl dX4_tells_57 rfl (rfl) (ihN rfl) rfl ?_
  exact trivial
theorem bf_X4_tells_58 : BOKt mt tX4_tells 63 58 b_X4_tells_58 := by
  refine bplain (pc' := 59) rfl dX4_tells_58 rfl (ihN rfl) rfl ?_
  refine bthr (pc' := 62) rfl dX4_tells_59 rfl (lkf0 q1225 lf_214) (trivial) (ihN rfl) rfl ?_
  refine bthr (pc' := 65) rfl dX4_tells_62 rfl (lkc (nm := "[F") q1322 lg_231 lb_244) (Or.inl rfl) (ihN rfl) rfl ?_
  refine bplain (pc' := 66) rfl dX4_tells_65 rfl (ihN rfl) rfl ?_
  refine bplain (pc' := 67) rfl dX4_tells_66 rfl (ihN rfl) rfl ?_
  refine bcall (pc' := 70) rfl dX4_tells_67 rfl (trivial) (lcs (l := q1340) mt_J27_floatToIntBits ⟨by decide, by decide⟩ mok_J27_floatToIntBits rfl ln_245 (Or.inl q1339)) (ihN rfl) rfl ?_
  refine bplain (pc' := 71) rfl dX4_tells_70 rfl (ihN rfl) rfl ?_
  refine bret (pc' := 72) rfl dX4_tells_71 rfl (rfl) (ihN rfl) rfl ?_
  exact trivial
theorem bf_X4_tells_72 : BOKt mt tX4_tells 63 72 b_X4_tells_72 := by
  refine bplain (pc' := 73) rfl dX4_tells_72 rfl (ihN rfl) rfl ?_
  refine bthr (pc' := 76) rfl dX4_tells_73 rfl (lkf0 q1225 lf_214) (trivial) (ihN rfl) rfl ?_
  refine bthr (pc' := 79) rfl dX4_tells_76 rfl (lkc (nm := "[D") q1324 lg_233 lb_246) (Or.inl rfl) (ihN rfl) rfl ?_
  refine bplain (pc' := 80) rfl dX4_tells_79 rfl (ihN rfl) rfl ?_
  refine bplain (pc' := 81) rfl dX4_tells_80 rfl (ihN rfl) rfl ?_
  refine bcall (pc' := 84) rfl dX4_tells_81 rfl (trivial) (lcs (l := q1350) mt_J28_doubleToLongBits ⟨by decide, by decide⟩ mok_J28_doubleToLongBits rfl ln_247 (Or.inl q1349)) (ihN rfl) rfl ?_
  refine bret (pc' := 85) rfl dX4_tells_84 rfl (rfl) (ihN rfl) rfl ?_
  exact trivial
theorem bf_X4_tells_85 : BOKt mt tX4_tells 63 85 b_X4_tells_85 := by
  refine bplain (pc' := 86) rfl dX4_tells_85 rfl (ihN rfl) rfl ?_
  refine bthr (pc' := 89) rfl dX4_tells_86 rfl (lkf0 q1225 lf_214) (trivial) (ihN rfl) rfl ?_
  refine bthr (pc' := 92) rfl dX4_tells_89 rfl (lkc (nm := "[Z") q1326 lg_235 lb_248) (Or.inl rfl) (ihN rfl) rfl ?_
  refine bplain (pc' := 93) rfl dX4_tells_92 rfl (ihN rfl) rfl ?_
  refine bplain (pc' := 94) rfl dX4_tells_93 rfl (ihN rfl) rfl ?_
  refine bjmp (tg := 101) (pc' := 97) rfl (by decide) (by decide) rfl dX4_tells_94 rfl (ihN rfl) rfl ?_
  refine bplain (pc' := 98) rfl dX4_tells_97 rfl (ihN rfl) rfl ?_
  refine bjmp (tg := 102) (pc' := 101) rfl (by decide) (by decide) rfl dX4_tells_98 rfl (ihN rfl) rfl ?_
  exact trivial
theorem bf_X4_tells_101 : BOKt mt tX4_tells 63 101 b_X4_tells_101 := by
  refine bplain (pc' := 102) rfl dX4_tells_101 rfl (ihN rfl) rfl ?_
  exact bnop0 rfl (by decide)
theorem bf_X4_tells_102 : BOKt mt tX4_tells 63 102 b_X4_tells_102 := by
  refine bnop1 ?_
  refine bret (pc' := 103) rfl dX4_tells_102 rfl (rfl) (ihN rfl) rfl ?_
  exact trivial
theorem tf_X4_tells : ∀ x ∈ tb_X4_tells, BOK mt 63 x.1 x.2 := tb_c mt_X4_tells bf_X4_tells_0 (tb_c mt_X4_tells bf_X4_tells_36 (tb_c mt_X4_tells bf_X4_tells_47 (tb_c mt_X4_tells bf_X4_tells_58 (tb_c mt_X4_tells bf_X4_tells_72 (tb_c mt_X4_tells bf_X4_tells_85 (tb_c mt_X4_tells bf_X4_tells_101 (tb_c mt_X4_tells bf_X4_tells_102 (tb_n))))))))
theorem bf_X0_get_0 : BOKt mt tX0_get 64 0 b_X0_get_0 := by
  refine bplain (pc' := 1) rfl dX0_get_0 rfl (ihP (fun h => nomatch h) rfl) rfl ?_
  refine bcall (pc' := 4) rfl dX0_get_1 rfl (trivial) (lcs (l := q1210) mt_X0_isRow ⟨by decide, by decide⟩ mok_X0_isRow rfl ln_222 (Or.inl q1209)) (ihH (fun h => nomatch h) (hokN (by decide +kernel))) rfl ?_
  refine bjmp (tg := 13) (pc' := 7) rfl (by decide) (by decide) rfl dX0_get_4 rfl (ihP (fun h => nomatch h) rfl) rfl ?_
  refine bplain (pc' := 9) rfl dX0_get_7 rfl (ihP (fun h => nomatch h) rfl) rfl ?_
  refine bcall (pc' := 12) rfl dX0_get_9 rfl (trivial) (lcs (l := q1332) mt_X0_no ⟨by decide, by decide⟩ mok_X0_no rfl ln_249 (Or.inl q1331)) (ihH (fun h => nomatch h) (hokN (by decide +kernel))) rfl ?_
  refine bret (pc' := 13) rfl dX0_get_12 rfl (rfl) (ihP (fun h => nomatch h) rfl) rfl ?_
  exact trivial
theorem bf_X0_get_13 : BOKt mt tX0_get 64 13 b_X0_get_13 := by
  refine bplain (pc' := 14) rfl dX0_get_13 rfl (ihP (fun h => nomatch h) rfl) rfl ?_
  refine bthr (pc' := 17) rfl dX0_get_14 rfl (lkf0 q1112 lf_113) (trivial) (ihP (fun h => nomatch h) rfl) rfl ?_
  refine bplain (pc' := 18) rfl dX0_get_17 rfl (ihP (fun h => nomatch h) rfl) rfl ?_
  refine bplain (pc' := 19) rfl dX0_get_18 rfl (ihP (fun h => nomatch h) rfl) rfl ?_
  refine bplain (pc' := 20) rfl dX0_get_19 rfl (ihP (fun h => nomatch h) rfl) rfl ?_
  refine bcall (pc' := 23) rfl dX0_get_20 rfl (trivial) (lcv (n := 1) rfl (pvc (lfv mt_X4_tells ⟨by decide, by decide⟩ mok_X4_tells ⟨by decide, by decide⟩ ⟨q1336, ln_249, Or.inl ⟨q1335, Or.inl q1337⟩⟩) (trivial)) (Or.inr ⟨⟨"StrideTurns$Row", "tells", "(I)J"⟩, _, _, _, "StrideTurns$Row", q1335, q1336, q1338, q1337, lv_238, ln_249⟩)) (ihH (fun h => nomatch h) (hokH (all6 (hk1s (k := 1) (pre := (tableOf [(13, 23, 24, 124), (13, 23, 34, 132)]).take 0) (suf := (tableOf [(13, 23, 24, 124), (13, 23, 34, 132)]).drop 1) (name := "java/lang/NullPointerException") rfl (trivial) rfl rfl q1254 q1276 (by decide) rfl) (hk1n (⟨xps_x (nm := "java/lang/NullPointerException") rfl q1254 (List.mem_of_getElem? (i := 28) rfl), ⟨xps_x (nm := "java/lang/ArrayIndexOutOfBoundsException") rfl q1297 (List.mem_of_getElem? (i := 29) rfl), trivial⟩⟩)) (hk1s (k := 3) (pre := (tableOf [(13, 23, 24, 124), (13, 23, 34, 132)]).take 1) (suf := (tableOf [(13, 23, 24, 124), (13, 23, 34, 132)]).drop 2) (name := "java/lang/ArrayIndexOutOfBoundsException") rfl (⟨xps_x (nm := "java/lang/NullPointerException") rfl q1254 (List.mem_of_getElem? (i := 34) rfl), trivial⟩) rfl rfl q1297 q1312 (by decide) rfl) (hk1n (⟨xps_x (nm := "java/lang/NullPointerException") rfl q1254 (List.mem_of_getElem? (i := 39) rfl), ⟨xps_x (nm := "java/lang/ArrayIndexOutOfBoundsException") rfl q1297 (List.mem_of_getElem? (i := 41) rfl), trivial⟩⟩)) (hk1n (⟨xps_x (nm := "java/lang/NullPointerException") rfl q1254 (List.mem_of_getElem? (i := 45) rfl), ⟨xps_x (nm := "java/lang/ArrayIndexOutOfBoundsException") rfl q1297 (List.mem_of_getElem? (i := 47) rfl), trivial⟩⟩)) (hk1n (⟨xps_x (nm := "java/lang/NullPointerException") rfl q1254 (List.mem_of_getElem? (i := 51) rfl), ⟨xps_x (nm := "java/lang/ArrayIndexOutOfBoundsException") rfl q1297 (List.mem_of_getElem? (i := 53) rfl), trivial⟩⟩))))) rfl ?_
  refine bret (pc' := 24) rfl dX0_get_23 rfl (rfl) (ihP (fun h => nomatch h) rfl) rfl ?_
  exact trivial
theorem bf_X0_get_24 : BOKt mt tX0_get 64 24 b_X0_get_24 := by
  refine bplain (pc' := 25) rfl dX0_get_24 rfl (ihP (fun h => nomatch h) rfl) rfl ?_
  refine bplain (pc' := 26) rfl dX0_get_25 rfl (ihP (fun h => nomatch h) rfl) rfl ?_
  refine bplain (pc' := 27) rfl dX0_get_26 rfl (ihP (fun h => nomatch h) rfl) rfl ?_
  refine bcall (pc' := 30) rfl dX0_get_27 rfl (trivial) (lcv (n := 1) rfl (pvc (lfv mt_X0_finds ⟨by decide, by decide⟩ mok_X0_finds ⟨by decide, by decide⟩ ⟨q1248, ln_225, Or.inl ⟨q1246, Or.inl qs4⟩⟩) (trivial)) (Or.inl (by decide))) (ihH (fun h => nomatch h) (hokN (by decide +kernel))) rfl ?_
  refine bcall (pc' := 33) rfl dX0_get_30 rfl (trivial) (lcs (l := q1332) mt_X0_no ⟨by decide, by decide⟩ mok_X0_no rfl ln_249 (Or.inl q1331)) (ihH (fun h => nomatch h) (hokN (by decide +kernel))) rfl ?_
  refine bret (pc' := 34) rfl dX0_get_33 rfl (rfl) (ihP (fun h => nomatch h) rfl) rfl ?_
  exact trivial
theorem bf_X0_get_34 : BOKt mt tX0_get 64 34 b_X0_get_34 := by
  refine bplain (pc' := 35) rfl dX0_get_34 rfl (ihP (fun h => nomatch h) rfl) rfl ?_
  refine bplain (pc' := 36) rfl dX0_get_35 rfl (ihP (fun h => nomatch h) rfl) rfl ?_
  refine bplain (pc' := 37) rfl dX0_get_36 rfl (ihP (fun h => nomatch h) rfl) rfl ?_
  refine bcall (pc' := 40) rfl dX0_get_37 rfl (trivial) (lcv (n := 1) rfl (pvc (lfv mt_X0_finds ⟨by decide, by decide⟩ mok_X0_finds ⟨by decide, by decide⟩ ⟨q1248, ln_225, Or.inl ⟨q1246, Or.inl qs4⟩⟩) (trivial)) (Or.inl (by decide))) (ihH (fun h => nomatch h) (hokN (by decide +kernel))) rfl ?_
  refine bcall (pc' := 43) rfl dX0_get_40 rfl (trivial) (lcs (l := q1332) mt_X0_no ⟨by decide, by decide⟩ mok_X0_no rfl ln_249 (Or.inl q1331)) (ihH (fun h => nomatch h) (hokN (by decide +kernel))) rfl ?_
  refine bret (pc' := 44) rfl dX0_get_43 rfl (rfl) (ihP (fun h => nomatch h) rfl) rfl ?_
  exact trivial
theorem tf_X0_get : ∀ x ∈ tb_X0_get, BOK mt 64 x.1 x.2 := tb_c mt_X0_get bf_X0_get_0 (tb_c mt_X0_get bf_X0_get_13 (tb_c mt_X0_get bf_X0_get_24 (tb_c mt_X0_get bf_X0_get_34 (tb_n))))
theorem bf_X3_no_0 : BOKt mt tX3_no 65 0 b_X3_no_0 := by
  refine bobj (pc' := 3) rfl dX3_no_0 rfl (lkq0 lc_239 q2770) (ihN rfl) rfl ?_
  refine bplain (pc' := 4) rfl dX3_no_3 rfl (ihN rfl) rfl ?_
  refine bplain (pc' := 5) rfl dX3_no_4 rfl (ihN rfl) rfl ?_
  refine bplain (pc' := 6) rfl dX3_no_5 rfl (ihN rfl) rfl ?_
  refine bret (pc' := 7) rfl dX3_no_6 rfl (rfl) (ihN rfl) rfl ?_
  exact trivial
theorem tf_X3_no : ∀ x ∈ tb_X3_no, BOK mt 65 x.1 x.2 := tb_c mt_X3_no bf_X3_no_0 (tb_n)
theorem bf_X3_lacks_0 : BOKt mt tX3_lacks 66 0 b_X3_lacks_0 := by
  refine bplain (pc' := 1) rfl dX3_lacks_0 rfl (ihN rfl) rfl ?_
  refine bthr (pc' := 4) rfl dX3_lacks_1 rfl (lkf0 q2597 lf_145) (trivial) (ihN rfl) rfl ?_
  refine bplain (pc' := 5) rfl dX3_lacks_4 rfl (ihN rfl) rfl ?_
  refine bplain (pc' := 6) rfl dX3_lacks_5 rfl (ihN rfl) rfl ?_
  refine bplain (pc' := 7) rfl dX3_lacks_6 rfl (ihN rfl) rfl ?_
  refine bjmp (tg := 14) (pc' := 10) rfl (by decide) (by decide) rfl dX3_lacks_7 rfl (ihN rfl) rfl ?_
  refine bplain (pc' := 11) rfl dX3_lacks_10 rfl (ihN rfl) rfl ?_
  refine bjmp (tg := 35) (pc' := 14) rfl (by decide) (by decide) rfl dX3_lacks_11 rfl (ihN rfl) rfl ?_
  exact trivial
theorem bf_X3_lacks_14 : BOKt mt tX3_lacks 66 14 b_X3_lacks_14 := by
  refine bplain (pc' := 15) rfl dX3_lacks_14 rfl (ihN rfl) rfl ?_
  refine bplain (pc' := 16) rfl dX3_lacks_15 rfl (ihN rfl) rfl ?_
  refine bplain (pc' := 17) rfl dX3_lacks_16 rfl (ihN rfl) rfl ?_
  refine bthr (pc' := 20) rfl dX3_lacks_17 rfl (lkf0 q2598 lf_147) (trivial) (ihN rfl) rfl ?_
  refine bplain (pc' := 21) rfl dX3_lacks_20 rfl (ihN rfl) rfl ?_
  refine bplain (pc' := 22) rfl dX3_lacks_21 rfl (ihN rfl) rfl ?_
  refine bplain (pc' := 23) rfl dX3_lacks_22 rfl (ihN rfl) rfl ?_
  refine bplain (pc' := 24) rfl dX3_lacks_23 rfl (ihN rfl) rfl ?_
  refine bcall (pc' := 27) rfl dX3_lacks_24 rfl (trivial) (lcs (l := q2747) mt_X3_in ⟨by decide, by decide⟩ mok_X3_in rfl ln_226 (Or.inl q2746)) (ihN rfl) rfl ?_
  refine bjmp (tg := 34) (pc' := 30) rfl (by decide) (by decide) rfl dX3_lacks_27 rfl (ihN rfl) rfl ?_
  refine bplain (pc' := 31) rfl dX3_lacks_30 rfl (ihN rfl) rfl ?_
  refine bjmp (tg := 35) (pc' := 34) rfl (by decide) (by decide) rfl dX3_lacks_31 rfl (ihN rfl) rfl ?_
  exact trivial
theorem bf_X3_lacks_34 : BOKt mt tX3_lacks 66 34 b_X3_lacks_34 := by
  refine bplain (pc' := 35) rfl dX3_lacks_34 rfl (ihN rfl) rfl ?_
  exact bnop0 rfl (by decide)
theorem bf_X3_lacks_35 : BOKt mt tX3_lacks 66 35 b_X3_lacks_35 := by
  refine bnop1 ?_
  refine bret (pc' := 36) rfl dX3_lacks_35 rfl (Or.inl ⟨rfl, rfl⟩) (ihN rfl) rfl ?_
  exact trivial
theorem tf_X3_lacks : ∀ x ∈ tb_X3_lacks, BOK mt 66 x.1 x.2 := tb_c mt_X3_lacks bf_X3_lacks_0 (tb_c mt_X3_lacks bf_X3_lacks_14 (tb_c mt_X3_lacks bf_X3_lacks_34 (tb_c mt_X3_lacks bf_X3_lacks_35 (tb_n))))
theorem bf_X3_bitsOf_0 : BOKt mt tX3_bitsOf 67 0 b_X3_bitsOf_0 := by
  refine bplain (pc' := 1) rfl dX3_bitsOf_0 rfl (ihN rfl) rfl ?_
  refine bplain (pc' := 2) rfl dX3_bitsOf_1 rfl (ihN rfl) rfl ?_
  refine bplain (pc' := 3) rfl dX3_bitsOf_2 rfl (ihN rfl) rfl ?_
  refine bjmp (tg := 11) (pc' := 6) rfl (by decide) (by decide) rfl dX3_bitsOf_3 rfl (ihN rfl) rfl ?_
  refine bplain (pc' := 7) rfl dX3_bitsOf_6 rfl (ihN rfl) rfl ?_
  refine bplain (pc' := 8) rfl dX3_bitsOf_7 rfl (ihN rfl) rfl ?_
  refine bjmp (tg := 12) (pc' := 11) rfl (by decide) (by decide) rfl dX3_bitsOf_8 rfl (ihN rfl) rfl ?_
  exact trivial
theorem bf_X3_bitsOf_11 : BOKt mt tX3_bitsOf 67 11 b_X3_bitsOf_11 := by
  refine bplain (pc' := 12) rfl dX3_bitsOf_11 rfl (ihN rfl) rfl ?_
  exact bnop0 rfl (by decide)
theorem bf_X3_bitsOf_12 : BOKt mt tX3_bitsOf 67 12 b_X3_bitsOf_12 := by
  refine bnop1 ?_
  refine bplain (pc' := 14) rfl dX3_bitsOf_12 rfl (ihN rfl) rfl ?_
  refine bplain (pc' := 15) rfl dX3_bitsOf_14 rfl (ihN rfl) rfl ?_
  refine bplain (pc' := 17) rfl dX3_bitsOf_15 rfl (ihN rfl) rfl ?_
  exact bnop0 rfl (by decide)
theorem bf_X3_bitsOf_17 : BOKt mt tX3_bitsOf 67 17 b_X3_bitsOf_17 := by
  refine bnop1 ?_
  refine bplain (pc' := 19) rfl dX3_bitsOf_17 rfl (ihN rfl) rfl ?_
  refine bobj (pc' := 22) rfl dX3_bitsOf_19 rfl (lkq1 rfl q2782) (ihN rfl) rfl ?_
  refine bplain (pc' := 23) rfl dX3_bitsOf_22 rfl (ihN rfl) rfl ?_
  refine bjmp (tg := 40) (pc' := 26) rfl (by decide) (by decide) rfl dX3_bitsOf_23 rfl (ihN rfl) rfl ?_
  refine bplain (pc' := 28) rfl dX3_bitsOf_26 rfl (ihN rfl) rfl ?_
  refine bobj (pc' := 31) rfl dX3_bitsOf_28 rfl (lkq1 rfl q2782) (ihN rfl) rfl ?_
  refine bplain (pc' := 32) rfl dX3_bitsOf_31 rfl (ihN rfl) rfl ?_
  refine bplain (pc' := 34) rfl dX3_bitsOf_32 rfl (ihN rfl) rfl ?_
  refine bplain (pc' := 37) rfl dX3_bitsOf_34 rfl (ihN rfl) rfl ?_
  refine bjmp (tg := 17) (pc' := 40) rfl (by decide) (by decide) rfl dX3_bitsOf_37 rfl (ihN rfl) rfl ?_
  exact trivial
theorem bf_X3_bitsOf_40 : BOKt mt tX3_bitsOf 67 40 b_X3_bitsOf_40 := by
  refine bnop1 ?_
  refine bplain (pc' := 42) rfl dX3_bitsOf_40 rfl (ihN rfl) rfl ?_
  refine bplain (pc' := 43) rfl dX3_bitsOf_42 rfl (ihN rfl) rfl ?_
  refine bplain (pc' := 44) rfl dX3_bitsOf_43 rfl (ihN rfl) rfl ?_
  refine bjmp (tg := 74) (pc' := 47) rfl (by decide) (by decide) rfl dX3_bitsOf_44 rfl (ihN rfl) rfl ?_
  refine bplain (pc' := 49) rfl dX3_bitsOf_47 rfl (ihN rfl) rfl ?_
  refine bplain (pc' := 50) rfl dX3_bitsOf_49 rfl (ihN rfl) rfl ?_
  refine bjmp (tg := 74) (pc' := 53) rfl (by decide) (by decide) rfl dX3_bitsOf_50 rfl (ihN rfl) rfl ?_
  refine bplain (pc' := 55) rfl dX3_bitsOf_53 rfl (ihN rfl) rfl ?_
  refine bplain (pc' := 56) rfl dX3_bitsOf_55 rfl (ihN rfl) rfl ?_
  refine bplain (pc' := 57) rfl dX3_bitsOf_56 rfl (ihN rfl) rfl ?_
  refine bjmp (tg := 74) (pc' := 60) rfl (by decide) (by decide) rfl dX3_bitsOf_57 rfl (ihN rfl) rfl ?_
  refine bplain (pc' := 62) rfl dX3_bitsOf_60 rfl (ihN rfl) rfl ?_
  refine bobj (pc' := 65) rfl dX3_bitsOf_62 rfl (lkq1 rfl q2782) (ihN rfl) rfl ?_
  refine bplain (pc' := 66) rfl dX3_bitsOf_65 rfl (ihN rfl) rfl ?_
  refine bplain (pc' := 68) rfl dX3_bitsOf_66 rfl (ihN rfl) rfl ?_
  refine bplain (pc' := 71) rfl dX3_bitsOf_68 rfl (ihN rfl) rfl ?_
  refine bjmp (tg := 40) (pc' := 74) rfl (by decide) (by decide) rfl dX3_bitsOf_71 rfl (ihN rfl) rfl ?_
  exact trivial
theorem bf_X3_bitsOf_74 : BOKt mt tX3_bitsOf 67 74 b_X3_bitsOf_74 := by
  refine bnop1 ?_
  refine bplain (pc' := 76) rfl dX3_bitsOf_74 rfl (ihN rfl) rfl ?_
  refine bplain (pc' := 78) rfl dX3_bitsOf_76 rfl (ihN rfl) rfl ?_
  refine bplain (pc' := 79) rfl dX3_bitsOf_78 rfl (ihN rfl) rfl ?_
  refine bplain (pc' := 81) rfl dX3_bitsOf_79 rfl (ihN rfl) rfl ?_
  exact bnop0 rfl (by decide)
theorem bf_X3_bitsOf_81 : BOKt mt tX3_bitsOf 67 81 b_X3_bitsOf_81 := by
  refine bnop1 ?_
  refine bplain (pc' := 83) rfl dX3_bitsOf_81 rfl (ihN rfl) rfl ?_
  refine bplain (pc' := 84) rfl dX3_bitsOf_83 rfl (ihN rfl) rfl ?_
  refine bjmp (tg := 101) (pc' := 87) rfl (by decide) (by decide) rfl dX3_bitsOf_84 rfl (ihN rfl) rfl ?_
  refine bplain (pc' := 89) rfl dX3_bitsOf_87 rfl (ihN rfl) rfl ?_
  refine bobj (pc' := 92) rfl dX3_bitsOf_89 rfl (lkq1 rfl q2782) (ihN rfl) rfl ?_
  refine bplain (pc' := 93) rfl dX3_bitsOf_92 rfl (ihN rfl) rfl ?_
  refine bplain (pc' := 95) rfl dX3_bitsOf_93 rfl (ihN rfl) rfl ?_
  refine bplain (pc' := 98) rfl dX3_bitsOf_95 rfl (ihN rfl) rfl ?_
  refine bjmp (tg := 81) (pc' := 101) rfl (by decide) (by decide) rfl dX3_bitsOf_98 rfl (ihN rfl) rfl ?_
  exact trivial
theorem bf_X3_bitsOf_101 : BOKt mt tX3_bitsOf 67 101 b_X3_bitsOf_101 := by
  refine bplain (pc' := 103) rfl dX3_bitsOf_101 rfl (ihN rfl) rfl ?_
  refine bplain (pc' := 104) rfl dX3_bitsOf_103 rfl (ihN rfl) rfl ?_
  refine bplain (pc' := 106) rfl dX3_bitsOf_104 rfl (ihN rfl) rfl ?_
  refine bplain (pc' := 108) rfl dX3_bitsOf_106 rfl (ihN rfl) rfl ?_
  refine bplain (pc' := 109) rfl dX3_bitsOf_108 rfl (ihN rfl) rfl ?_
  refine bplain (pc' := 110) rfl dX3_bitsOf_109 rfl (ihN rfl) rfl ?_
  refine bjmp (tg := 118) (pc' := 113) rfl (by decide) (by decide) rfl dX3_bitsOf_110 rfl (ihN rfl) rfl ?_
  refine bplain (pc' := 115) rfl dX3_bitsOf_113 rfl (ihN rfl) rfl ?_
  refine bjmp (tg := 134) (pc' := 118) rfl (by decide) (by decide) rfl dX3_bitsOf_115 rfl (ihN rfl) rfl ?_
  exact trivial
theorem bf_X3_bitsOf_118 : BOKt mt tX3_bitsOf 67 118 b_X3_bitsOf_118 := by
  refine bplain (pc' := 120) rfl dX3_bitsOf_118 rfl (ihN rfl) rfl ?_
  refine bplain (pc' := 121) rfl dX3_bitsOf_120 rfl (ihN rfl) rfl ?_
  refine bplain (pc' := 122) rfl dX3_bitsOf_121 rfl (ihN rfl) rfl ?_
  refine bplain (pc' := 123) rfl dX3_bitsOf_122 rfl (ihN rfl) rfl ?_
  refine bplain (pc' := 124) rfl dX3_bitsOf_123 rfl (ihN rfl) rfl ?_
  refine bplain (pc' := 126) rfl dX3_bitsOf_124 rfl (ihN rfl) rfl ?_
  refine bplain (pc' := 127) rfl dX3_bitsOf_126 rfl (ihN rfl) rfl ?_
  refine bplain (pc' := 128) rfl dX3_bitsOf_127 rfl (ihN rfl) rfl ?_
  refine bplain (pc' := 129) rfl dX3_bitsOf_128 rfl (ihN rfl) rfl ?_
  refine bplain (pc' := 130) rfl dX3_bitsOf_129 rfl (ihN rfl) rfl ?_
  refine bplain (pc' := 131) rfl dX3_bitsOf_130 rfl (ihN rfl) rfl ?_
  refine bplain (pc' := 132) rfl dX3_bitsOf_131 rfl (ihN rfl) rfl ?_
  refine bplain (pc' := 133) rfl dX3_bitsOf_132 rfl (ihN rfl) rfl ?_
  refine bplain (pc' := 134) rfl dX3_bitsOf_133 rfl (ihN rfl) rfl ?_
  exact bnop0 rfl (by decide)
theorem bf_X3_bitsOf_134 : BOKt mt tX3_bitsOf 67 134 b_X3_bitsOf_134 := by
  refine bnop1 ?_
  refine bret (pc' := 135) rfl dX3_bitsOf_134 rfl (rfl) (ihN rfl) rfl ?_
  exact trivial
theorem tf_X3_bitsOf : ∀ x ∈ tb_X3_bitsOf, BOK mt 67 x.1 x.2 := tb_c mt_X3_bitsOf bf_X3_bitsOf_0 (tb_c mt_X3_bitsOf bf_X3_bitsOf_11 (tb_c mt_X3_bitsOf bf_X3_bitsOf_12 (tb_c mt_X3_bitsOf bf_X3_bitsOf_17 (tb_c mt_X3_bitsOf bf_X3_bitsOf_40 (tb_c mt_X3_bitsOf bf_X3_bitsOf_74 (tb_c mt_X3_bitsOf bf_X3_bitsOf_81 (tb_c mt_X3_bitsOf bf_X3_bitsOf_101 (tb_c mt_X3_bitsOf bf_X3_bitsOf_118 (tb_c mt_X3_bitsOf bf_X3_bitsOf_134 (tb_n))))))))))
theorem bf_X3_toldOf_0 : BOKt mt tX3_toldOf 68 0 b_X3_toldOf_0 := by
  refine bplain (pc' := 1) rfl dX3_toldOf_0 rfl (ihN rfl) rfl ?_
  refine bthr (pc' := 4) rfl dX3_toldOf_1 rfl (lkf0 q2597 lf_145) (trivial) (ihN rfl) rfl ?_
  refine bplain (pc' := 5) rfl dX3_toldOf_4 rfl (ihN rfl) rfl ?_
  refine bplain (pc' := 7) rfl dX3_toldOf_5 rfl (ihN rfl) rfl ?_
  refine bplain (pc' := 8) rfl dX3_toldOf_7 rfl (ihN rfl) rfl ?_
  refine bplain (pc' := 9) rfl dX3_toldOf_8 rfl (ihN rfl) rfl ?_
  refine bplain (pc' := 10) rfl dX3_toldOf_9 rfl (ihN rfl) rfl ?_
  refine bplain (pc' := 11) rfl dX3_toldOf_10 rfl (ihN rfl) rfl ?_
  refine bthr (pc' := 14) rfl dX3_toldOf_11 rfl (lkf0 q2599 lf_149) (trivial) (ihN rfl) rfl ?_
  refine bplain (pc' := 15) rfl dX3_toldOf_14 rfl (ihN rfl) rfl ?_
  refine bplain (pc' := 16) rfl dX3_toldOf_15 rfl (ihN rfl) rfl ?_
  refine bplain (pc' := 17) rfl dX3_toldOf_16 rfl (ihN rfl) rfl ?_
  refine bplain (pc' := 18) rfl dX3_toldOf_17 rfl (ihN rfl) rfl ?_
  refine bplain (pc' := 19) rfl dX3_toldOf_18 rfl (ihN rfl) rfl ?_
  refine bjmp (tg := 52) (pc' := 22) rfl (by decide) (by decide) rfl dX3_toldOf_19 rfl (ihN rfl) rfl ?_
  refine bplain (pc' := 23) rfl dX3_toldOf_22 rfl (ihN rfl) rfl ?_
  refine bplain (pc' := 25) rfl dX3_toldOf_23 rfl (ihN rfl) rfl ?_
  refine bplain (pc' := 27) rfl dX3_toldOf_25 rfl (ihN rfl) rfl ?_
  refine bcall (pc' := 30) rfl dX3_toldOf_27 rfl (trivial) (lcs (l := q2780) mt_X3_bitsOf ⟨by decide, by decide⟩ mok_X3_bitsOf rfl ln_250 (Or.inl q2779)) (ihN rfl) rfl ?_
  refine bplain (pc' := 31) rfl dX3_toldOf_30 rfl (ihN rfl) rfl ?_
  refine bplain (pc' := 33) rfl dX3_toldOf_31 rfl (ihN rfl) rfl ?_
  refine bplain (pc' := 34) rfl dX3_toldOf_33 rfl (ihN rfl) rfl ?_
  refine bplain (pc' := 35) rfl dX3_toldOf_34 rfl (ihN rfl) rfl ?_
  refine bplain (pc' := 36) rfl dX3_toldOf_35 rfl (ihN rfl) rfl ?_
  refine bjmp (tg := 48) (pc' := 39) rfl (by decide) (by decide) rfl dX3_toldOf_36 rfl (ihN rfl) rfl ?_
  refine bplain (pc' := 41) rfl dX3_toldOf_39 rfl (ihN rfl) rfl ?_
  refine bobj (pc' := 43) rfl dX3_toldOf_41 rfl (lkl0 lc_251 q2783) (ihN rfl) rfl ?_
  refine bplain (pc' := 44) rfl dX3_toldOf_43 rfl (ihN rfl) rfl ?_
  refine bplain (pc' := 45) rfl dX3_toldOf_44 rfl (ihN rfl) rfl ?_
  refine bjmp (tg := 51) (pc' := 48) rfl (by decide) (by decide) rfl dX3_toldOf_45 rfl (ihN rfl) rfl ?_
  exact trivial
theorem bf_X3_toldOf_48 : BOKt mt tX3_toldOf 68 48 b_X3_toldOf_48 := by
  refine bplain (pc' := 50) rfl dX3_toldOf_48 rfl (ihN rfl) rfl ?_
  refine bplain (pc' := 51) rfl dX3_toldOf_50 rfl (ihN rfl) rfl ?_
  exact bnop0 rfl (by decide)
theorem bf_X3_toldOf_51 : BOKt mt tX3_toldOf 68 51 b_X3_toldOf_51 := by
  refine bnop1 ?_
  refine bret (pc' := 52) rfl dX3_toldOf_51 rfl (rfl) (ihN rfl) rfl ?_
  exact trivial
theorem bf_X3_toldOf_52 : BOKt mt tX3_toldOf 68 52 b_X3_toldOf_52 := by
  refine bplain (pc' := 53) rfl dX3_toldOf_52 rfl (ihN rfl) rfl ?_
  refine bplain (pc' := 54) rfl dX3_toldOf_53 rfl (ihN rfl) rfl ?_
  refine bjmp (tg := 86) (pc' := 57) rfl (by decide) (by decide) rfl dX3_toldOf_54 rfl (ihN rfl) rfl ?_
  refine bplain (pc' := 58) rfl dX3_toldOf_57 rfl (ihN rfl) rfl ?_
  refine bplain (pc' := 60) rfl dX3_toldOf_58 rfl (ihN rfl) rfl ?_
  refine bplain (pc' := 63) rfl dX3_toldOf_60 rfl (ihN rfl) rfl ?_
  refine bcall (pc' := 66) rfl dX3_toldOf_63 rfl (trivial) (lcs (l := q2780) mt_X3_bitsOf ⟨by decide, by decide⟩ mok_X3_bitsOf rfl ln_250 (Or.inl q2779)) (ihN rfl) rfl ?_
  refine bplain (pc' := 68) rfl dX3_toldOf_66 rfl (ihN rfl) rfl ?_
  refine bplain (pc' := 69) rfl dX3_toldOf_68 rfl (ihN rfl) rfl ?_
  refine bplain (pc' := 70) rfl dX3_toldOf_69 rfl (ihN rfl) rfl ?_
  refine bplain (pc' := 71) rfl dX3_toldOf_70 rfl (ihN rfl) rfl ?_
  refine bjmp (tg := 83) (pc' := 74) rfl (by decide) (by decide) rfl dX3_toldOf_71 rfl (ihN rfl) rfl ?_
  refine bplain (pc' := 76) rfl dX3_toldOf_74 rfl (ihN rfl) rfl ?_
  refine bobj (pc' := 79) rfl dX3_toldOf_76 rfl (lkq0 lc_239 q2770) (ihN rfl) rfl ?_
  refine bplain (pc' := 80) rfl dX3_toldOf_79 rfl (ihN rfl) rfl ?_
  refine bjmp (tg := 85) (pc' := 83) rfl (by decide) (by decide) rfl dX3_toldOf_80 rfl (ihN rfl) rfl ?_
  exact trivial
theorem bf_X3_toldOf_83 : BOKt mt tX3_toldOf 68 83 b_X3_toldOf_83 := by
  refine bplain (pc' := 85) rfl dX3_toldOf_83 rfl (ihN rfl) rfl ?_
  exact bnop0 rfl (by decide)
theorem bf_X3_toldOf_85 : BOKt mt tX3_toldOf 68 85 b_X3_toldOf_85 := by
  refine bnop1 ?_
  refine bret (pc' := 86) rfl dX3_toldOf_85 rfl (rfl) (ihN rfl) rfl ?_
  exact trivial
theorem bf_X3_toldOf_86 : BOKt mt tX3_toldOf 68 86 b_X3_toldOf_86 := by
  refine bplain (pc' := 87) rfl dX3_toldOf_86 rfl (ihN rfl) rfl ?_
  refine bplain (pc' := 88) rfl dX3_toldOf_87 rfl (ihN rfl) rfl ?_
  refine bret (pc' := 89) rfl dX3_toldOf_88 rfl (rfl) (ihN rfl) rfl ?_
  exact trivial
theorem tf_X3_toldOf : ∀ x ∈ tb_X3_toldOf, BOK mt 68 x.1 x.2 := tb_c mt_X3_toldOf bf_X3_toldOf_0 (tb_c mt_X3_toldOf bf_X3_toldOf_48 (tb_c mt_X3_toldOf bf_X3_toldOf_51 (tb_c mt_X3_toldOf bf_X3_toldOf_52 (tb_c mt_X3_toldOf bf_X3_toldOf_83 (tb_c mt_X3_toldOf bf_X3_toldOf_85 (tb_c mt_X3_toldOf bf_X3_toldOf_86 (tb_n)))))))
theorem bf_X3_get_0 : BOKt mt tX3_get 69 0 b_X3_get_0 := by
  refine bplain (pc' := 1) rfl dX3_get_0 rfl (ihN rfl) rfl ?_
  refine bcall (pc' := 4) rfl dX3_get_1 rfl (trivial) (lcs (l := q2744) mt_X3_isRow ⟨by decide, by decide⟩ mok_X3_isRow rfl ln_222 (Or.inl q2743)) (ihN rfl) rfl ?_
  refine bjmp (tg := 13) (pc' := 7) rfl (by decide) (by decide) rfl dX3_get_4 rfl (ihN rfl) rfl ?_
  refine bplain (pc' := 9) rfl dX3_get_7 rfl (ihN rfl) rfl ?_
  refine bcall (pc' := 12) rfl dX3_get_9 rfl (trivial) (lcs (l := q2768) mt_X3_no ⟨by decide, by decide⟩ mok_X3_no rfl ln_249 (Or.inl q2767)) (ihN rfl) rfl ?_
  refine bret (pc' := 13) rfl dX3_get_12 rfl (rfl) (ihN rfl) rfl ?_
  exact trivial
theorem bf_X3_get_13 : BOKt mt tX3_get 69 13 b_X3_get_13 := by
  refine bplain (pc' := 14) rfl dX3_get_13 rfl (ihN rfl) rfl ?_
  refine bplain (pc' := 15) rfl dX3_get_14 rfl (ihN rfl) rfl ?_
  refine bplain (pc' := 16) rfl dX3_get_15 rfl (ihN rfl) rfl ?_
  refine bcall (pc' := 19) rfl dX3_get_16 rfl (trivial) (lcv (n := 2) rfl (pvc (lfv mt_X3_lacks ⟨by decide, by decide⟩ mok_X3_lacks ⟨by decide, by decide⟩ ⟨q2773, ln_252, Or.inl ⟨q2771, Or.inl qs64⟩⟩) (trivial)) (Or.inl (by decide))) (ihN rfl) rfl ?_
  refine bplain (pc' := 20) rfl dX3_get_19 rfl (ihN rfl) rfl ?_
  refine bplain (pc' := 21) rfl dX3_get_20 rfl (ihN rfl) rfl ?_
  refine bjmp (tg := 35) (pc' := 24) rfl (by decide) (by decide) rfl dX3_get_21 rfl (ihN rfl) rfl ?_
  refine bplain (pc' := 25) rfl dX3_get_24 rfl (ihN rfl) rfl ?_
  refine bplain (pc' := 26) rfl dX3_get_25 rfl (ihN rfl) rfl ?_
  refine bcall (pc' := 29) rfl dX3_get_26 rfl (trivial) (lcv (n := 1) rfl (pvc (lfv mt_X3_meets ⟨by decide, by decide⟩ mok_X3_meets ⟨by decide, by decide⟩ ⟨q2751, ln_225, Or.inl ⟨q2749, Or.inl qs63⟩⟩) (trivial)) (Or.inl (by decide))) (ihN rfl) rfl ?_
  refine bcall (pc' := 32) rfl dX3_get_29 rfl (trivial) (lcs (l := q2768) mt_X3_no ⟨by decide, by decide⟩ mok_X3_no rfl ln_249 (Or.inl q2767)) (ihN rfl) rfl ?_
  refine bjmp (tg := 45) (pc' := 35) rfl (by decide) (by decide) rfl dX3_get_32 rfl (ihN rfl) rfl ?_
  exact trivial
theorem bf_X3_get_35 : BOKt mt tX3_get 69 35 b_X3_get_35 := by
  refine bplain (pc' := 36) rfl dX3_get_35 rfl (ihN rfl) rfl ?_
  refine bplain (pc' := 38) rfl dX3_get_36 rfl (ihN rfl) rfl ?_
  refine bplain (pc' := 39) rfl dX3_get_38 rfl (ihN rfl) rfl ?_
  refine bplain (pc' := 40) rfl dX3_get_39 rfl (ihN rfl) rfl ?_
  refine bplain (pc' := 41) rfl dX3_get_40 rfl (ihN rfl) rfl ?_
  refine bplain (pc' := 42) rfl dX3_get_41 rfl (ihN rfl) rfl ?_
  refine bcall (pc' := 45) rfl dX3_get_42 rfl (trivial) (lcv (n := 1) rfl (pvc (lfv mt_X3_toldOf ⟨by decide, by decide⟩ mok_X3_toldOf ⟨by decide, by decide⟩ ⟨q2777, ln_249, Or.inl ⟨q2775, Or.inl qs65⟩⟩) (trivial)) (Or.inl (by decide))) (ihN rfl) rfl ?_
  exact bnop0 rfl (by decide)
theorem bf_X3_get_45 : BOKt mt tX3_get 69 45 b_X3_get_45 := by
  refine bnop1 ?_
  refine bret (pc' := 46) rfl dX3_get_45 rfl (rfl) (ihN rfl) rfl ?_
  exact trivial
theorem tf_X3_get : ∀ x ∈ tb_X3_get, BOK mt 69 x.1 x.2 := tb_c mt_X3_get bf_X3_get_0 (tb_c mt_X3_get bf_X3_get_13 (tb_c mt_X3_get bf_X3_get_35 (tb_c mt_X3_get bf_X3_get_45 (tb_n))))
theorem bf_X0_copy_0 : BOKt mt tX0_copy 70 0 b_X0_copy_0 := by
  refine bplain (pc' := 1) rfl dX0_copy_0 rfl (ihP (fun h => nomatch h) rfl) rfl ?_
  refine bcall (pc' := 4) rfl dX0_copy_1 rfl (trivial) (lcs (l := q1210) mt_X0_isRow ⟨by decide, by decide⟩ mok_X0_isRow rfl ln_222 (Or.inl q1209)) (ihH (fun h => nomatch h) (hokN (by decide +kernel))) rfl ?_
  refine bjmp (tg := 14) (pc' := 7) rfl (by decide) (by decide) rfl dX0_copy_4 rfl (ihP (fun h => nomatch h) rfl) rfl ?_
  refine bplain (pc' := 8) rfl dX0_copy_7 rfl (ihP (fun h => nomatch h) rfl) rfl ?_
  refine bcall (pc' := 11) rfl dX0_copy_8 rfl (trivial) (lcs (l := q1210) mt_X0_isRow ⟨by decide, by decide⟩ mok_X0_isRow rfl ln_222 (Or.inl q1209)) (ihH (fun h => nomatch h) (hokN (by decide +kernel))) rfl ?_
  refine bjmp (tg := 17) (pc' := 14) rfl (by decide) (by decide) rfl dX0_copy_11 rfl (ihP (fun h => nomatch h) rfl) rfl ?_
  exact bnop0 rfl (by decide)
theorem bf_X0_copy_14 : BOKt mt tX0_copy 70 14 b_X0_copy_14 := by
  refine bnop1 ?_
  refine bplain (pc' := 16) rfl dX0_copy_14 rfl (ihP (fun h => nomatch h) rfl) rfl ?_
  refine bret (pc' := 17) rfl dX0_copy_16 rfl (Or.inl ⟨rfl, rfl⟩) (ihP (fun h => nomatch h) rfl) rfl ?_
  exact trivial
theorem bf_X0_copy_17 : BOKt mt tX0_copy 70 17 b_X0_copy_17 := by
  refine bplain (pc' := 18) rfl dX0_copy_17 rfl (ihP (fun h => nomatch h) rfl) rfl ?_
  refine bthr (pc' := 21) rfl dX0_copy_18 rfl (lkf0 q1112 lf_113) (trivial) (ihP (fun h => nomatch h) rfl) rfl ?_
  refine bplain (pc' := 22) rfl dX0_copy_21 rfl (ihP (fun h => nomatch h) rfl) rfl ?_
  refine bplain (pc' := 23) rfl dX0_copy_22 rfl (ihP (fun h => nomatch h) rfl) rfl ?_
  refine bthr (pc' := 26) rfl dX0_copy_23 rfl (lkf1 (host := "StrideTurns") (by decide) q1226 lf_214) (lkf2 (host := "StrideTurns") q1226 lf_214) (ihH (fun h => nomatch h) (hokH (all6 (hk1s (k := 1) (pre := (tableOf [(17, 44, 45, 124), (17, 44, 53, 151), (17, 44, 61, 153)]).take 0) (suf := (tableOf [(17, 44, 45, 124), (17, 44, 53, 151), (17, 44, 61, 153)]).drop 1) (name := "java/lang/NullPointerException") rfl (trivial) rfl rfl q1254 q1276 (by decide) rfl) (hk1n (⟨xps_x (nm := "java/lang/NullPointerException") rfl q1254 (List.mem_of_getElem? (i := 28) rfl), ⟨xps_x (nm := "java/lang/ArrayStoreException") rfl q1363 (List.mem_of_getElem? (i := 30) rfl), ⟨xps_x (nm := "java/lang/IndexOutOfBoundsException") rfl q1377 (List.mem_of_getElem? (i := 33) rfl), trivial⟩⟩⟩)) (hk1s (k := 3) (pre := (tableOf [(17, 44, 45, 124), (17, 44, 53, 151), (17, 44, 61, 153)]).take 2) (suf := (tableOf [(17, 44, 45, 124), (17, 44, 53, 151), (17, 44, 61, 153)]).drop 3) (name := "java/lang/IndexOutOfBoundsException") rfl (⟨xps_x (nm := "java/lang/NullPointerException") rfl q1254 (List.mem_of_getElem? (i := 34) rfl), ⟨xps_x (nm := "java/lang/ArrayStoreException") rfl q1363 (List.mem_of_getElem? (i := 36) rfl), trivial⟩⟩) rfl rfl q1377 q3214 (by decide) rfl) (hk1s (k := 4) (pre := (tableOf [(17, 44, 45, 124), (17, 44, 53, 151), (17, 44, 61, 153)]).take 1) (suf := (tableOf [(17, 44, 45, 124), (17, 44, 53, 151), (17, 44, 61, 153)]).drop 2) (name := "java/lang/ArrayStoreException") rfl (⟨xps_x (nm := "java/lang/NullPointerException") rfl q1254 (List.mem_of_getElem? (i := 39) rfl), trivial⟩) rfl rfl q1363 q1375 (by decide) rfl) (hk1n (⟨xps_x (nm := "java/lang/NullPointerException") rfl q1254 (List.mem_of_getElem? (i := 45) rfl), ⟨xps_x (nm := "java/lang/ArrayStoreException") rfl q1363 (List.mem_of_getElem? (i := 48) rfl), ⟨xps_x (nm := "java/lang/IndexOutOfBoundsException") rfl q1377 (List.mem_of_getElem? (i := 50) rfl), trivial⟩⟩⟩)) (hk1n (⟨xps_x (nm := "java/lang/NullPointerException") rfl q1254 (List.mem_of_getElem? (i := 51) rfl), ⟨xps_x (nm := "java/lang/ArrayStoreException") rfl q1363 (List.mem_of_getElem? (i := 54) rfl), ⟨xps_x (nm := "java/lang/IndexOutOfBoundsException") rfl q1377 (List.mem_of_getElem? (i := 56) rfl), trivial⟩⟩⟩))))) rfl ?_
  refine bplain (pc' := 27) rfl dX0_copy_26 rfl (ihP (fun h => nomatch h) rfl) rfl ?_
  refine bplain (pc' := 28) rfl dX0_copy_27 rfl (ihP (fun h => nomatch h) rfl) rfl ?_
  refine bthr (pc' := 31) rfl dX0_copy_28 rfl (lkf0 q1112 lf_113) (trivial) (ihP (fun h => nomatch h) rfl) rfl ?_
  refine bplain (pc' := 32) rfl dX0_copy_31 rfl (ihP (fun h => nomatch h) rfl) rfl ?_
  refine bplain (pc' := 33) rfl dX0_copy_32 rfl (ihP (fun h => nomatch h) rfl) rfl ?_
  refine bthr (pc' := 36) rfl dX0_copy_33 rfl (lkf1 (host := "StrideTurns") (by decide) q1226 lf_214) (lkf2 (host := "StrideTurns") q1226 lf_214) (ihH (fun h => nomatch h) (hokH (all6 (hk1s (k := 1) (pre := (tableOf [(17, 44, 45, 124), (17, 44, 53, 151), (17, 44, 61, 153)]).take 0) (suf := (tableOf [(17, 44, 45, 124), (17, 44, 53, 151), (17, 44, 61, 153)]).drop 1) (name := "java/lang/NullPointerException") rfl (trivial) rfl rfl q1254 q1276 (by decide) rfl) (hk1n (⟨xps_x (nm := "java/lang/NullPointerException") rfl q1254 (List.mem_of_getElem? (i := 28) rfl), ⟨xps_x (nm := "java/lang/ArrayStoreException") rfl q1363 (List.mem_of_getElem? (i := 30) rfl), ⟨xps_x (nm := "java/lang/IndexOutOfBoundsException") rfl q1377 (List.mem_of_getElem? (i := 33) rfl), trivial⟩⟩⟩)) (hk1s (k := 3) (pre := (tableOf [(17, 44, 45, 124), (17, 44, 53, 151), (17, 44, 61, 153)]).take 2) (suf := (tableOf [(17, 44, 45, 124), (17, 44, 53, 151), (17, 44, 61, 153)]).drop 3) (name := "java/lang/IndexOutOfBoundsException") rfl (⟨xps_x (nm := "java/lang/NullPointerException") rfl q1254 (List.mem_of_getElem? (i := 34) rfl), ⟨xps_x (nm := "java/lang/ArrayStoreException") rfl q1363 (List.mem_of_getElem? (i := 36) rfl), trivial⟩⟩) rfl rfl q1377 q3214 (by decide) rfl) (hk1s (k := 4) (pre := (tableOf [(17, 44, 45, 124), (17, 44, 53, 151), (17, 44, 61, 153)]).take 1) (suf := (tableOf [(17, 44, 45, 124), (17, 44, 53, 151), (17, 44, 61, 153)]).drop 2) (name := "java/lang/ArrayStoreException") rfl (⟨xps_x (nm := "java/lang/NullPointerException") rfl q1254 (List.mem_of_getElem? (i := 39) rfl), trivial⟩) rfl rfl q1363 q1375 (by decide) rfl) (hk1n (⟨xps_x (nm := "java/lang/NullPointerException") rfl q1254 (List.mem_of_getElem? (i := 45) rfl), ⟨xps_x (nm := "java/lang/ArrayStoreException") rfl q1363 (List.mem_of_getElem? (i := 48) rfl), ⟨xps_x (nm := "java/lang/IndexOutOfBoundsException") rfl q1377 (List.mem_of_getElem? (i := 50) rfl), trivial⟩⟩⟩)) (hk1n (⟨xps_x (nm := "java/lang/NullPointerException") rfl q1254 (List.mem_of_getElem? (i := 51) rfl), ⟨xps_x (nm := "java/lang/ArrayStoreException") rfl q1363 (List.mem_of_getElem? (i := 54) rfl), ⟨xps_x (nm := "java/lang/IndexOutOfBoundsException") rfl q1377 (List.mem_of_getElem? (i := 56) rfl), trivial⟩⟩⟩))))) rfl ?_
  refine bplain (pc' := 38) rfl dX0_copy_36 rfl (ihP (fun h => nomatch h) rfl) rfl ?_
  refine bplain (pc' := 40) rfl dX0_copy_38 rfl (ihP (fun h => nomatch h) rfl) rfl ?_
  refine bcall (pc' := 43) rfl dX0_copy_40 rfl (⟨q1378, q1380, q1379, q171⟩) (Or.inl rfl) (ihH (fun h => nomatch h) (hokH (all6 (hk1s (k := 1) (pre := (tableOf [(17, 44, 45, 124), (17, 44, 53, 151), (17, 44, 61, 153)]).take 0) (suf := (tableOf [(17, 44, 45, 124), (17, 44, 53, 151), (17, 44, 61, 153)]).drop 1) (name := "java/lang/NullPointerException") rfl (trivial) rfl rfl q1254 q1276 (by decide) rfl) (hk1n (⟨xps_x (nm := "java/lang/NullPointerException") rfl q1254 (List.mem_of_getElem? (i := 28) rfl), ⟨xps_x (nm := "java/lang/ArrayStoreException") rfl q1363 (List.mem_of_getElem? (i := 30) rfl), ⟨xps_x (nm := "java/lang/IndexOutOfBoundsException") rfl q1377 (List.mem_of_getElem? (i := 33) rfl), trivial⟩⟩⟩)) (hk1s (k := 3) (pre := (tableOf [(17, 44, 45, 124), (17, 44, 53, 151), (17, 44, 61, 153)]).take 2) (suf := (tableOf [(17, 44, 45, 124), (17, 44, 53, 151), (17, 44, 61, 153)]).drop 3) (name := "java/lang/IndexOutOfBoundsException") rfl (⟨xps_x (nm := "java/lang/NullPointerException") rfl q1254 (List.mem_of_getElem? (i := 34) rfl), ⟨xps_x (nm := "java/lang/ArrayStoreException") rfl q1363 (List.mem_of_getElem? (i := 36) rfl), trivial⟩⟩) rfl rfl q1377 q3214 (by decide) rfl) (hk1s (k := 4) (pre := (tableOf [(17, 44, 45, 124), (17, 44, 53, 151), (17, 44, 61, 153)]).take 1) (suf := (tableOf [(17, 44, 45, 124), (17, 44, 53, 151), (17, 44, 61, 153)]).drop 2) (name := "java/lang/ArrayStoreException") rfl (⟨xps_x (nm := "java/lang/NullPointerException") rfl q1254 (List.mem_of_getElem? (i := 39) rfl), trivial⟩) rfl rfl q1363 q1375 (by decide) rfl) (hk1n (⟨xps_x (nm := "java/lang/NullPointerException") rfl q1254 (List.mem_of_getElem? (i := 45) rfl), ⟨xps_x (nm := "java/lang/ArrayStoreException") rfl q1363 (List.mem_of_getElem? (i := 48) rfl), ⟨xps_x (nm := "java/lang/IndexOutOfBoundsException") rfl q1377 (List.mem_of_getElem? (i := 50) rfl), trivial⟩⟩⟩)) (hk1n (⟨xps_x (nm := "java/lang/NullPointerException") rfl q1254 (List.mem_of_getElem? (i := 51) rfl), ⟨xps_x (nm := "java/lang/ArrayStoreException") rfl q1363 (List.mem_of_getElem? (i := 54) rfl), ⟨xps_x (nm := "java/lang/IndexOutOfBoundsException") rfl q1377 (List.mem_of_getElem? (i := 56) rfl), trivial⟩⟩⟩))))) rfl ?_
  refine bplain (pc' := 44) rfl dX0_copy_43 rfl (ihP (fun h => nomatch h) rfl) rfl ?_
  refine bret (pc' := 45) rfl dX0_copy_44 rfl (Or.inl ⟨rfl, rfl⟩) (ihP (fun h => nomatch h) rfl) rfl ?_
  exact trivial
theorem bf_X0_copy_45 : BOKt mt tX0_copy 70 45 b_X0_copy_45 := by
  refine bplain (pc' := 47) rfl dX0_copy_45 rfl (ihP (fun h => nomatch h) rfl) rfl ?_
  refine bplain (pc' := 48) rfl dX0_copy_47 rfl (ihP (fun h => nomatch h) rfl) rfl ?_
  refine bplain (pc' := 49) rfl dX0_copy_48 rfl (ihP (fun h => nomatch h) rfl) rfl ?_
  refine bcall (pc' := 52) rfl dX0_copy_49 rfl (trivial) (lcv (n := 1) rfl (pvc (lfv mt_X0_finds ⟨by decide, by decide⟩ mok_X0_finds ⟨by decide, by decide⟩ ⟨q1248, ln_225, Or.inl ⟨q1246, Or.inl qs4⟩⟩) (trivial)) (Or.inl (by decide))) (ihH (fun h => nomatch h) (hokN (by decide +kernel))) rfl ?_
  refine bret (pc' := 53) rfl dX0_copy_52 rfl (Or.inl ⟨rfl, rfl⟩) (ihP (fun h => nomatch h) rfl) rfl ?_
  exact trivial
theorem bf_X0_copy_53 : BOKt mt tX0_copy 70 53 b_X0_copy_53 := by
  refine bplain (pc' := 55) rfl dX0_copy_53 rfl (ihP (fun h => nomatch h) rfl) rfl ?_
  refine bplain (pc' := 56) rfl dX0_copy_55 rfl (ihP (fun h => nomatch h) rfl) rfl ?_
  refine bplain (pc' := 57) rfl dX0_copy_56 rfl (ihP (fun h => nomatch h) rfl) rfl ?_
  refine bcall (pc' := 60) rfl dX0_copy_57 rfl (trivial) (lcv (n := 1) rfl (pvc (lfv mt_X0_finds ⟨by decide, by decide⟩ mok_X0_finds ⟨by decide, by decide⟩ ⟨q1248, ln_225, Or.inl ⟨q1246, Or.inl qs4⟩⟩) (trivial)) (Or.inl (by decide))) (ihH (fun h => nomatch h) (hokN (by decide +kernel))) rfl ?_
  refine bret (pc' := 61) rfl dX0_copy_60 rfl (Or.inl ⟨rfl, rfl⟩) (ihP (fun h => nomatch h) rfl) rfl ?_
  exact trivial
theorem bf_X0_copy_61 : BOKt mt tX0_copy 70 61 b_X0_copy_61 := by
  refine bplain (pc' := 63) rfl dX0_copy_61 rfl (ihP (fun h => nomatch h) rfl) rfl ?_
  refine bplain (pc' := 64) rfl dX0_copy_63 rfl (ihP (fun h => nomatch h) rfl) rfl ?_
  refine bplain (pc' := 65) rfl dX0_copy_64 rfl (ihP (fun h => nomatch h) rfl) rfl ?_
  refine bcall (pc' := 68) rfl dX0_copy_65 rfl (trivial) (lcv (n := 1) rfl (pvc (lfv mt_X0_finds ⟨by decide, by decide⟩ mok_X0_finds ⟨by decide, by decide⟩ ⟨q1248, ln_225, Or.inl ⟨q1246, Or.inl qs4⟩⟩) (trivial)) (Or.inl (by decide))) (ihH (fun h => nomatch h) (hokN (by decide +kernel))) rfl ?_
  refine bret (pc' := 69) rfl dX0_copy_68 rfl (Or.inl ⟨rfl, rfl⟩) (ihP (fun h => nomatch h) rfl) rfl ?_
  exact trivial
theorem tf_X0_copy : ∀ x ∈ tb_X0_copy, BOK mt 70 x.1 x.2 := tb_c mt_X0_copy bf_X0_copy_0 (tb_c mt_X0_copy bf_X0_copy_14 (tb_c mt_X0_copy bf_X0_copy_17 (tb_c mt_X0_copy bf_X0_copy_45 (tb_c mt_X0_copy bf_X0_copy_53 (tb_c mt_X0_copy bf_X0_copy_61 (tb_n))))))
