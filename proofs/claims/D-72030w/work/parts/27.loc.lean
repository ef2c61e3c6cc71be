/-! locals -/
theorem set1_spec : ∀ {i : Nat} {v : Value} {ls ls' : List Value}, ev_set1 i v ls = some ls' → i < ls.length ∧ ls'.length = ls.length ∧ ∀ j w, ls'[j]? = some w → w ≠ jk → (j = i ∧ w = v) ∨ (j ≠ i ∧ ls[j]? = some w ∧ ¬ (j + 1 = i ∧ ev_cat2 w = true)) := by
  intro i
  induction i with
  | zero =>
    intro v ls ls' h
    cases ls with
    | nil => cases h
    | cons a l =>
      cases h
      refine ⟨Nat.succ_pos _, rfl, fun j w hw hj => ?_⟩
      cases j with
      | zero => simp at hw; exact Or.inl ⟨rfl, hw.symm⟩
      | succ j => exact Or.inr ⟨Nat.succ_ne_zero j, by simpa using hw, fun q => absurd q.1 (Nat.succ_ne_zero _)⟩
  | succ i ih =>
    intro v ls ls' h
    cases ls with
    | nil => cases h
    | cons a l =>
      unfold ev_set1 at h
      cases hr : ev_set1 i v l with
      | none => rw [hr] at h; cases h
      | some l' =>
        rw [hr] at h
        cases h
        obtain ⟨h1, h2, h3⟩ := ih hr
        refine ⟨Nat.succ_lt_succ h1, by simp [h2], fun j w hw hj => ?_⟩
        cases j with
        | zero =>
          simp at hw
          by_cases hc : i = 0 ∧ ev_cat2 a = true
          · rw [if_pos hc] at hw; exact absurd hw.symm hj
          · rw [if_neg hc] at hw
            subst hw
            exact Or.inr ⟨fun q => absurd q.symm (Nat.succ_ne_zero i), rfl, fun q => hc ⟨by omega, q.2⟩⟩
        | succ j =>
          simp at hw
          rcases h3 j w hw hj with ⟨a1, a2⟩ | ⟨a1, a2, a3⟩
          · exact Or.inl ⟨by rw [a1], a2⟩
          · exact Or.inr ⟨fun q => a1 (by omega), by simpa using a2, fun q => a3 ⟨by omega, q.2⟩⟩
theorem set2_spec : ∀ {i : Nat} {v : Value} {ls ls' : List Value}, ev_set2 i v ls = some ls' → i + 1 < ls.length ∧ ls'.length = ls.length ∧ ∀ j w, ls'[j]? = some w → w ≠ jk → (j = i ∧ w = v) ∨ (j ≠ i ∧ j ≠ i + 1 ∧ ls[j]? = some w ∧ ¬ (j + 1 = i ∧ ev_cat2 w = true)) := by
  intro i
  induction i with
  | zero =>
    intro v ls ls' h
    match ls, h with
    | [], h => cases h
    | [_], h => cases h
    | a :: b :: l, h =>
      cases h
      refine ⟨by simp, rfl, fun j w hw hj => ?_⟩
      match j, hw with
      | 0, hw => simp at hw; exact Or.inl ⟨rfl, hw.symm⟩
      | 1, hw => simp at hw; exact absurd hw.symm hj
      | j + 2, hw => exact Or.inr ⟨by omega, by omega, by simpa using hw, fun q => absurd q.1 (by omega)⟩
  | succ i ih =>
    intro v ls ls' h
    cases ls with
    | nil => cases h
    | cons a l =>
      simp only [ev_set2] at h
      cases hr : ev_set2 i v l with
      | none => rw [hr] at h; cases h
      | some l' =>
        rw [hr] at h
        cases h
        obtain ⟨h1, h2, h3⟩ := ih hr
        refine ⟨Nat.succ_lt_succ h1, by simp [h2], fun j w hw hj => ?_⟩
        cases j with
        | zero =>
          simp at hw
          by_cases hc : i = 0 ∧ ev_cat2 a = true
          · rw [if_pos hc] at hw; exact absurd hw.symm hj
          · rw [if_neg hc] at hw
            subst hw
            exact Or.inr ⟨by omega, by omega, rfl, fun q => hc ⟨by omega, q.2⟩⟩
        | succ j =>
          simp at hw
          rcases h3 j w hw hj with ⟨a1, a2⟩ | ⟨a1, a1', a2, a3⟩
          · exact Or.inl ⟨by rw [a1], a2⟩
          · exact Or.inr ⟨fun q => a1 (by omega), fun q => a1' (by omega), by simpa using a2, fun q => a3 ⟨by omega, q.2⟩⟩
theorem VR_cat {φ : Nat → Nat} {v a : Value} (h : VR φ v a) : a.category = 2 → ev_cat2 v = true := by
  cases v with
  | int x => cases h; intro q; cases q
  | long x => intro; rfl
  | float x => cases h; intro q; cases q
  | double x => intro; rfl
  | null => exact h.elim
  | ref n =>
    have h : a = crf φ n := h
    subst h
    unfold crf
    split <;> (intro q; cases q)
  | retAddr n => obtain ⟨-, k, rfl⟩ := h; intro q; cases q
theorem LocR.get {φ : Nat → Nat} {M : ev_M} {ls : List Value} {lsA : Array Slot} {nL : Nat} (h : LocR φ M ls lsA nL) {i : Nat} {v : Value} (hi : ls[i]? = some v) (hj : v ≠ jk) : wfv M v ∧ ∃ vA, VR φ v vA ∧ lsA[i]? = some (.val vA) := by
  obtain ⟨-, l, h1, h2⟩ := h
  obtain ⟨a, vA, b, d⟩ := h2 i v hi hj
  exact ⟨a, vA, b, h1.2.2 _ d⟩
theorem LocR.set1 {φ : Nat → Nat} {M : ev_M} {ls ls' : List Value} {nL i : Nat} {v vA : Value} {l : List (Nat × Value)} (h0 : ls.length = nL) (h2 : ∀ i v, ls[i]? = some v → v ≠ jk → wfv M v ∧ ∃ vA, VR φ v vA ∧ (i, vA) ∈ l) (hs : ev_set1 i v ls = some ls') (hv : VR φ v vA) (hw : wfv M v)
    {lsA' : Array Slot} (h1 : lv_has lsA' nL ((i, vA) :: l.filter (fun q => !(q.1 == i) && !(q.1 + 1 == i && q.2.category == 2)))) : LocR φ M ls' lsA' nL := by
  obtain ⟨-, a2, a3⟩ := set1_spec hs
  refine ⟨a2.trans h0, _, h1, fun j w hw' hj => ?_⟩
  rcases a3 j w hw' hj with ⟨rfl, rfl⟩ | ⟨b1, b2, b3⟩
  · exact ⟨hw, vA, hv, List.mem_cons_self⟩
  · obtain ⟨c1, wA, c2, c3⟩ := h2 j w b2 hj
    refine ⟨c1, wA, c2, List.mem_cons_of_mem _ (List.mem_filter.mpr ⟨c3, ?_⟩)⟩
    have n1 : (j == i) = false := by simpa using b1
    simp only [n1, Bool.not_false, Bool.true_and]
    by_cases hji : j + 1 = i
    · have : wA.category ≠ 2 := fun q => b3 ⟨hji, VR_cat c2 q⟩
      simp [hji, this]
    · simp [hji]
theorem LocR.set2 {φ : Nat → Nat} {M : ev_M} {ls ls' : List Value} {nL i : Nat} {v vA : Value} {l : List (Nat × Value)} (h0 : ls.length = nL) (h2 : ∀ i v, ls[i]? = some v → v ≠ jk → wfv M v ∧ ∃ vA, VR φ v vA ∧ (i, vA) ∈ l) (hs : ev_set2 i v ls = some ls') (hv : VR φ v vA) (hw : wfv M v)
    {lsA' : Array Slot} (h1 : lv_has lsA' nL ((i, vA) :: l.filter (fun q => !(q.1 == i) && (!(q.1 == i + 1) && !(q.1 + 1 == i && q.2.category == 2))))) : LocR φ M ls' lsA' nL := by
  obtain ⟨-, a2, a3⟩ := set2_spec hs
  refine ⟨a2.trans h0, _, h1, fun j w hw' hj => ?_⟩
  rcases a3 j w hw' hj with ⟨rfl, rfl⟩ | ⟨b1, b1', b2, b3⟩
  · exact ⟨hw, vA, hv, List.mem_cons_self⟩
  · obtain ⟨c1, wA, c2, c3⟩ := h2 j w b2 hj
    refine ⟨c1, wA, c2, List.mem_cons_of_mem _ (List.mem_filter.mpr ⟨c3, ?_⟩)⟩
    have n1 : (j == i) = false := by simpa using b1
    have n2 : (j == i + 1) = false := by simpa using b1'
    simp only [n1, n2, Bool.not_false, Bool.true_and]
    by_cases hji : j + 1 = i
    · have : wA.category ≠ 2 := fun q => b3 ⟨hji, VR_cat c2 q⟩
      simp [hji, this]
    · simp [hji]
theorem LocR.kill {φ : Nat → Nat} {M : ev_M} : ∀ {ks : List Nat} {ls : List Value} {lsA : Array Slot} {nL : Nat}, LocR φ M ls lsA nL → LocR φ M (ev_kill ks ls) lsA nL
  | [], _, _, _, h => h
  | k :: ks, ls, lsA, nL, h => by
    refine LocR.kill (ks := ks) (ls := ls.set k jk) ?_
    obtain ⟨h0, l, h1, h2⟩ := h
    refine ⟨by simp [h0], l, h1, fun i v hi hj => ?_⟩
    rw [List.getElem?_set] at hi
    split at hi
    · split at hi
      · cases hi; exact absurd rfl hj
      · cases hi
    · exact h2 i v hi hj
