/-! WALKING: what a run comes to -/
theorem ex_mono {P : ev_P} : ∀ {n : Nat} {cs : ev_B} {ls st : List Value} {M : ev_M} {r : ev_O}, ex P n cs ls st M = some r → ∀ k, ex P (n + k) cs ls st M = some r := by
  intro n
  induction n with
  | zero => intro cs ls st M r h; simp [ex] at h
  | succ n ih =>
    intro cs ls st M r h k
    rw [Nat.succ_add]
    cases cs with
    | nil => simp [ex] at h
    | cons c cs =>
      unfold ex at h ⊢
      split at h
      · cases h
      · rename_i q hq
        try rw [hq]
        exact ih h k
      · rename_i q hq
        try rw [hq]
        exact h
      · rename_i q hq
        try rw [hq]
        try dsimp only at h ⊢
        split at h
        · cases h
        · rename_i r' hr
          rw [ih hr k]
          try dsimp only at h ⊢
          split at h
          · cases h
          · rename_i q' hq'
            try rw [hq']
            exact ih h k
          · rename_i q' hq'
            try rw [hq']
            exact h
/-- the run comes to an end with Q -/
def XP (P : ev_P) (cs : ev_B) (ls st : List Value) (M : ev_M) (Q : Nat → Value → ev_M → Prop) : Prop := ∃ n r, ex P n cs ls st M = some r ∧ Q r.1 r.2.1 r.2.2
def XK (P : ev_P) (hs : List (Nat × Nat)) (cs : ev_B) (ls st : List Value) (Q : Nat → Value → ev_M → Prop) (o : Nat) (r : Value) (M : ev_M) : Prop := match ev_bk P hs cs ls st o r M with
  | none => False
  | some (.inl q) => XP P q.1 q.2.1 q.2.2.1 q.2.2.2 Q
  | some (.inr r) => Q r.1 r.2.1 r.2.2
def XR (P : ev_P) (hs : List (Nat × Nat)) (cs : ev_B) (ls : List Value) (M : ev_M) (Q : Nat → Value → ev_M → Prop) : Option ev_R → Prop
  | none => False
  | some (.inl q) => XP P q.1 q.2.1 q.2.2.1 q.2.2.2 Q
  | some (.inr (.inl r)) => Q r.1 r.2.1 r.2.2
  | some (.inr (.inr q)) => XP P (P.1 (q.1 * 4096)) (ev_ent (P.2.1 q.1) q.2.1) [] M (XK P hs cs ls q.2.2 Q)
theorem XP_cons {P : ev_P} {c : ev_I × List (Nat × Nat)} {cs : ev_B} {ls st : List Value} {M : ev_M} {Q : Nat → Value → ev_M → Prop} :
    XP P (c :: cs) ls st M Q ↔ XR P c.2 cs ls M Q (ev_st P c.1.1 c.1.2.2 c.2 cs ls st M) := by
  constructor
  · rintro ⟨n, r, h, hQ⟩
    cases n with
    | zero => simp [ex] at h
    | succ n =>
      unfold ex at h
      unfold XR
      split at h
      · cases h
      · rename_i q hq
        try rw [hq]
        exact ⟨n, r, h, hQ⟩
      · rename_i q hq
        try rw [hq]
        cases h
        exact hQ
      · rename_i q hq
        try rw [hq]
        try dsimp only at h ⊢
        split at h
        · cases h
        · rename_i r' hr
          refine ⟨n, r', hr, ?_⟩
          unfold XK
          split at h
          · cases h
          · rename_i q' hq'
            try rw [hq']
            exact ⟨n, r, h, hQ⟩
          · rename_i q' hq'
            try rw [hq']
            cases h
            exact hQ
  · intro h
    unfold XR at h
    split at h
    · exact h.elim
    · rename_i q hq
      obtain ⟨n, r, h1, h2⟩ := h
      refine ⟨n + 1, r, ?_, h2⟩
      unfold ex
      try rw [hq]
      exact h1
    · rename_i q hq
      refine ⟨1, q, ?_, h⟩
      unfold ex
      try rw [hq]
    · rename_i q hq
      obtain ⟨n, r, h1, h2⟩ := h
      unfold XK at h2
      split at h2
      · exact h2.elim
      · rename_i q' hq'
        obtain ⟨n', r', h3, h4⟩ := h2
        refine ⟨n + n' + 1, r', ?_, h4⟩
        unfold ex
        try rw [hq]
        try dsimp only
        rw [ex_mono h1 n']
        try dsimp only
        try rw [hq']
        try dsimp only
        rw [Nat.add_comm]
        exact ex_mono h3 n
      · rename_i q' hq'
        refine ⟨n + 1, q', ?_, h2⟩
        unfold ex
        try rw [hq]
        try dsimp only
        rw [h1]
        try dsimp only
        try rw [hq']
