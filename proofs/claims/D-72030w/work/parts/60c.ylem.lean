/-! GUARDS; CALLS BY KIND (by gen/ylem.py) -/
theorem gd {c : Prop} [Decidable c] {α : Type} {x : Option α} {r : α} (h : (if c then x else none) = some r) : c ∧ x = some r := by
  by_cases hc : c
  · rw [if_pos hc] at h; exact ⟨hc, h⟩
  · rw [if_neg hc] at h; cases h
theorem ife {c : Prop} [Decidable c] {α : Type} {x y : Option α} {r : α} (h : (if c then x else y) = some r) : (c ∧ x = some r) ∨ (¬ c ∧ y = some r) := by
  by_cases hc : c
  · rw [if_pos hc] at h; exact Or.inl ⟨hc, h⟩
  · rw [if_neg hc] at h; exact Or.inr ⟨hc, h⟩
section
variable {l : Nat} {ar : List Nat} {hs : List (Nat × Nat)} {cs : ev_B} {ls st : List Value} {M : ev_M} {Q : Nat → Value → ev_M → Prop}
theorem y_stat0 {i y n : Nat} (hml : ev_prog.2.1 y = n) (hl : (ev_lay []).length ≤ n) (hy : ¬ y = 0) (hn : ¬ y = 9000) (hw : ¬ 8 < ev_w st) : XP ev_prog (((.invokestatic i, l, [y, 0]), hs) :: cs) ls (st) M Q ↔ CX ev_prog y [] M (XK ev_prog hs cs ls st Q) := x_stat0 hy hn hw (by rw [hml]; omega)
theorem y_stat1 {v0 : Value} {i y n : Nat} (hml : ev_prog.2.1 y = n) (hl : (ev_lay [v0]).length ≤ n) (hy : ¬ y = 0) (hn : ¬ y = 9000) (hw : ¬ 8 < ev_w st) : XP ev_prog (((.invokestatic i, l, [y, 1]), hs) :: cs) ls (v0 :: st) M Q ↔ CX ev_prog y [v0] M (XK ev_prog hs cs ls st Q) := x_stat1 hy hn hw (by rw [hml]; omega)
theorem y_spec1 {a i y n : Nat} (hml : ev_prog.2.1 y = n) (hl : (ev_lay [.ref a]).length ≤ n) (ha : ¬ a = 0) (hy : ¬ y = 0) (hw : ¬ 8 < ev_w st) : XP ev_prog (((.invokespecial i, l, [y, 1]), hs) :: cs) ls (.ref a :: st) M Q ↔ CX ev_prog y [.ref a] M (XK ev_prog hs cs ls st Q) := x_spec1 ha hy hw (by rw [hml]; omega)
theorem y_virt1 {a i q y n : Nat} {l1 : List Nat} (hml : ev_prog.2.1 y = n) (hl : (ev_lay [.ref a]).length ≤ n) (ha : ¬ a = 0) (hk : mK M a = q) (hp : ev_pair q l1 = some y) (hy : ¬ y = 0) (hw : ¬ 8 < ev_w st) : XP ev_prog (((.invokevirtual i, l, 1 :: l1), hs) :: cs) ls (.ref a :: st) M Q ↔ CX ev_prog y [.ref a] M (XK ev_prog hs cs ls st Q) := by
  have e : ev_pair (mK M a) l1 = some y := by rw [hk]; exact hp
  have e2 : (ev_pair (mK M a) l1).getD 0 = y := by rw [e]; rfl
  rw [x_virt1 ha (by rw [e]; rfl) (by rw [e2]; exact hy) hw (by rw [e2, hml]; omega), e2]
theorem y_stat2 {v0 v1 : Value} {i y n : Nat} (hml : ev_prog.2.1 y = n) (hl : (ev_lay [v0, v1]).length ≤ n) (hy : ¬ y = 0) (hn : ¬ y = 9000) (hw : ¬ 8 < ev_w st) : XP ev_prog (((.invokestatic i, l, [y, 2]), hs) :: cs) ls (v1 :: v0 :: st) M Q ↔ CX ev_prog y [v0, v1] M (XK ev_prog hs cs ls st Q) := x_stat2 hy hn hw (by rw [hml]; omega)
theorem y_spec2 {v1 : Value} {a i y n : Nat} (hml : ev_prog.2.1 y = n) (hl : (ev_lay [.ref a, v1]).length ≤ n) (ha : ¬ a = 0) (hy : ¬ y = 0) (hw : ¬ 8 < ev_w st) : XP ev_prog (((.invokespecial i, l, [y, 2]), hs) :: cs) ls (v1 :: .ref a :: st) M Q ↔ CX ev_prog y [.ref a, v1] M (XK ev_prog hs cs ls st Q) := x_spec2 ha hy hw (by rw [hml]; omega)
theorem y_virt2 {v1 : Value} {a i q y n : Nat} {l1 : List Nat} (hml : ev_prog.2.1 y = n) (hl : (ev_lay [.ref a, v1]).length ≤ n) (ha : ¬ a = 0) (hk : mK M a = q) (hp : ev_pair q l1 = some y) (hy : ¬ y = 0) (hw : ¬ 8 < ev_w st) : XP ev_prog (((.invokevirtual i, l, 2 :: l1), hs) :: cs) ls (v1 :: .ref a :: st) M Q ↔ CX ev_prog y [.ref a, v1] M (XK ev_prog hs cs ls st Q) := by
  have e : ev_pair (mK M a) l1 = some y := by rw [hk]; exact hp
  have e2 : (ev_pair (mK M a) l1).getD 0 = y := by rw [e]; rfl
  rw [x_virt2 ha (by rw [e]; rfl) (by rw [e2]; exact hy) hw (by rw [e2, hml]; omega), e2]
theorem y_stat3 {v0 v1 v2 : Value} {i y n : Nat} (hml : ev_prog.2.1 y = n) (hl : (ev_lay [v0, v1, v2]).length ≤ n) (hy : ¬ y = 0) (hn : ¬ y = 9000) (hw : ¬ 8 < ev_w st) : XP ev_prog (((.invokestatic i, l, [y, 3]), hs) :: cs) ls (v2 :: v1 :: v0 :: st) M Q ↔ CX ev_prog y [v0, v1, v2] M (XK ev_prog hs cs ls st Q) := x_stat3 hy hn hw (by rw [hml]; omega)
theorem y_spec3 {v1 v2 : Value} {a i y n : Nat} (hml : ev_prog.2.1 y = n) (hl : (ev_lay [.ref a, v1, v2]).length ≤ n) (ha : ¬ a = 0) (hy : ¬ y = 0) (hw : ¬ 8 < ev_w st) : XP ev_prog (((.invokespecial i, l, [y, 3]), hs) :: cs) ls (v2 :: v1 :: .ref a :: st) M Q ↔ CX ev_prog y [.ref a, v1, v2] M (XK ev_prog hs cs ls st Q) := x_spec3 ha hy hw (by rw [hml]; omega)
theorem y_virt3 {v1 v2 : Value} {a i q y n : Nat} {l1 : List Nat} (hml : ev_prog.2.1 y = n) (hl : (ev_lay [.ref a, v1, v2]).length ≤ n) (ha : ¬ a = 0) (hk : mK M a = q) (hp : ev_pair q l1 = some y) (hy : ¬ y = 0) (hw : ¬ 8 < ev_w st) : XP ev_prog (((.invokevirtual i, l, 3 :: l1), hs) :: cs) ls (v2 :: v1 :: .ref a :: st) M Q ↔ CX ev_prog y [.ref a, v1, v2] M (XK ev_prog hs cs ls st Q) := by
  have e : ev_pair (mK M a) l1 = some y := by rw [hk]; exact hp
  have e2 : (ev_pair (mK M a) l1).getD 0 = y := by rw [e]; rfl
  rw [x_virt3 ha (by rw [e]; rfl) (by rw [e2]; exact hy) hw (by rw [e2, hml]; omega), e2]
theorem y_stat4 {v0 v1 v2 v3 : Value} {i y n : Nat} (hml : ev_prog.2.1 y = n) (hl : (ev_lay [v0, v1, v2, v3]).length ≤ n) (hy : ¬ y = 0) (hn : ¬ y = 9000) (hw : ¬ 8 < ev_w st) : XP ev_prog (((.invokestatic i, l, [y, 4]), hs) :: cs) ls (v3 :: v2 :: v1 :: v0 :: st) M Q ↔ CX ev_prog y [v0, v1, v2, v3] M (XK ev_prog hs cs ls st Q) := x_stat4 hy hn hw (by rw [hml]; omega)
theorem y_spec4 {v1 v2 v3 : Value} {a i y n : Nat} (hml : ev_prog.2.1 y = n) (hl : (ev_lay [.ref a, v1, v2, v3]).length ≤ n) (ha : ¬ a = 0) (hy : ¬ y = 0) (hw : ¬ 8 < ev_w st) : XP ev_prog (((.invokespecial i, l, [y, 4]), hs) :: cs) ls (v3 :: v2 :: v1 :: .ref a :: st) M Q ↔ CX ev_prog y [.ref a, v1, v2, v3] M (XK ev_prog hs cs ls st Q) := x_spec4 ha hy hw (by rw [hml]; omega)
theorem y_virt4 {v1 v2 v3 : Value} {a i q y n : Nat} {l1 : List Nat} (hml : ev_prog.2.1 y = n) (hl : (ev_lay [.ref a, v1, v2, v3]).length ≤ n) (ha : ¬ a = 0) (hk : mK M a = q) (hp : ev_pair q l1 = some y) (hy : ¬ y = 0) (hw : ¬ 8 < ev_w st) : XP ev_prog (((.invokevirtual i, l, 4 :: l1), hs) :: cs) ls (v3 :: v2 :: v1 :: .ref a :: st) M Q ↔ CX ev_prog y [.ref a, v1, v2, v3] M (XK ev_prog hs cs ls st Q) := by
  have e : ev_pair (mK M a) l1 = some y := by rw [hk]; exact hp
  have e2 : (ev_pair (mK M a) l1).getD 0 = y := by rw [e]; rfl
  rw [x_virt4 ha (by rw [e]; rfl) (by rw [e2]; exact hy) hw (by rw [e2, hml]; omega), e2]
theorem y_stat5 {v0 v1 v2 v3 v4 : Value} {i y n : Nat} (hml : ev_prog.2.1 y = n) (hl : (ev_lay [v0, v1, v2, v3, v4]).length ≤ n) (hy : ¬ y = 0) (hn : ¬ y = 9000) (hw : ¬ 8 < ev_w st) : XP ev_prog (((.invokestatic i, l, [y, 5]), hs) :: cs) ls (v4 :: v3 :: v2 :: v1 :: v0 :: st) M Q ↔ CX ev_prog y [v0, v1, v2, v3, v4] M (XK ev_prog hs cs ls st Q) := x_stat5 hy hn hw (by rw [hml]; omega)
theorem y_spec5 {v1 v2 v3 v4 : Value} {a i y n : Nat} (hml : ev_prog.2.1 y = n) (hl : (ev_lay [.ref a, v1, v2, v3, v4]).length ≤ n) (ha : ¬ a = 0) (hy : ¬ y = 0) (hw : ¬ 8 < ev_w st) : XP ev_prog (((.invokespecial i, l, [y, 5]), hs) :: cs) ls (v4 :: v3 :: v2 :: v1 :: .ref a :: st) M Q ↔ CX ev_prog y [.ref a, v1, v2, v3, v4] M (XK ev_prog hs cs ls st Q) := x_spec5 ha hy hw (by rw [hml]; omega)
theorem y_virt5 {v1 v2 v3 v4 : Value} {a i q y n : Nat} {l1 : List Nat} (hml : ev_prog.2.1 y = n) (hl : (ev_lay [.ref a, v1, v2, v3, v4]).length ≤ n) (ha : ¬ a = 0) (hk : mK M a = q) (hp : ev_pair q l1 = some y) (hy : ¬ y = 0) (hw : ¬ 8 < ev_w st) : XP ev_prog (((.invokevirtual i, l, 5 :: l1), hs) :: cs) ls (v4 :: v3 :: v2 :: v1 :: .ref a :: st) M Q ↔ CX ev_prog y [.ref a, v1, v2, v3, v4] M (XK ev_prog hs cs ls st Q) := by
  have e : ev_pair (mK M a) l1 = some y := by rw [hk]; exact hp
  have e2 : (ev_pair (mK M a) l1).getD 0 = y := by rw [e]; rfl
  rw [x_virt5 ha (by rw [e]; rfl) (by rw [e2]; exact hy) hw (by rw [e2, hml]; omega), e2]
theorem y_stat6 {v0 v1 v2 v3 v4 v5 : Value} {i y n : Nat} (hml : ev_prog.2.1 y = n) (hl : (ev_lay [v0, v1, v2, v3, v4, v5]).length ≤ n) (hy : ¬ y = 0) (hn : ¬ y = 9000) (hw : ¬ 8 < ev_w st) : XP ev_prog (((.invokestatic i, l, [y, 6]), hs) :: cs) ls (v5 :: v4 :: v3 :: v2 :: v1 :: v0 :: st) M Q ↔ CX ev_prog y [v0, v1, v2, v3, v4, v5] M (XK ev_prog hs cs ls st Q) := x_stat6 hy hn hw (by rw [hml]; omega)
theorem y_spec6 {v1 v2 v3 v4 v5 : Value} {a i y n : Nat} (hml : ev_prog.2.1 y = n) (hl : (ev_lay [.ref a, v1, v2, v3, v4, v5]).length ≤ n) (ha : ¬ a = 0) (hy : ¬ y = 0) (hw : ¬ 8 < ev_w st) : XP ev_prog (((.invokespecial i, l, [y, 6]), hs) :: cs) ls (v5 :: v4 :: v3 :: v2 :: v1 :: .ref a :: st) M Q ↔ CX ev_prog y [.ref a, v1, v2, v3, v4, v5] M (XK ev_prog hs cs ls st Q) := x_spec6 ha hy hw (by rw [hml]; omega)
theorem y_virt6 {v1 v2 v3 v4 v5 : Value} {a i q y n : Nat} {l1 : List Nat} (hml : ev_prog.2.1 y = n) (hl : (ev_lay [.ref a, v1, v2, v3, v4, v5]).length ≤ n) (ha : ¬ a = 0) (hk : mK M a = q) (hp : ev_pair q l1 = some y) (hy : ¬ y = 0) (hw : ¬ 8 < ev_w st) : XP ev_prog (((.invokevirtual i, l, 6 :: l1), hs) :: cs) ls (v5 :: v4 :: v3 :: v2 :: v1 :: .ref a :: st) M Q ↔ CX ev_prog y [.ref a, v1, v2, v3, v4, v5] M (XK ev_prog hs cs ls st Q) := by
  have e : ev_pair (mK M a) l1 = some y := by rw [hk]; exact hp
  have e2 : (ev_pair (mK M a) l1).getD 0 = y := by rw [e]; rfl
  rw [x_virt6 ha (by rw [e]; rfl) (by rw [e2]; exact hy) hw (by rw [e2, hml]; omega), e2]
theorem y_stat7 {v0 v1 v2 v3 v4 v5 v6 : Value} {i y n : Nat} (hml : ev_prog.2.1 y = n) (hl : (ev_lay [v0, v1, v2, v3, v4, v5, v6]).length ≤ n) (hy : ¬ y = 0) (hn : ¬ y = 9000) (hw : ¬ 8 < ev_w st) : XP ev_prog (((.invokestatic i, l, [y, 7]), hs) :: cs) ls (v6 :: v5 :: v4 :: v3 :: v2 :: v1 :: v0 :: st) M Q ↔ CX ev_prog y [v0, v1, v2, v3, v4, v5, v6] M (XK ev_prog hs cs ls st Q) := x_stat7 hy hn hw (by rw [hml]; omega)
theorem y_spec7 {v1 v2 v3 v4 v5 v6 : Value} {a i y n : Nat} (hml : ev_prog.2.1 y = n) (hl : (ev_lay [.ref a, v1, v2, v3, v4, v5, v6]).length ≤ n) (ha : ¬ a = 0) (hy : ¬ y = 0) (hw : ¬ 8 < ev_w st) : XP ev_prog (((.invokespecial i, l, [y, 7]), hs) :: cs) ls (v6 :: v5 :: v4 :: v3 :: v2 :: v1 :: .ref a :: st) M Q ↔ CX ev_prog y [.ref a, v1, v2, v3, v4, v5, v6] M (XK ev_prog hs cs ls st Q) := x_spec7 ha hy hw (by rw [hml]; omega)
theorem y_virt7 {v1 v2 v3 v4 v5 v6 : Value} {a i q y n : Nat} {l1 : List Nat} (hml : ev_prog.2.1 y = n) (hl : (ev_lay [.ref a, v1, v2, v3, v4, v5, v6]).length ≤ n) (ha : ¬ a = 0) (hk : mK M a = q) (hp : ev_pair q l1 = some y) (hy : ¬ y = 0) (hw : ¬ 8 < ev_w st) : XP ev_prog (((.invokevirtual i, l, 7 :: l1), hs) :: cs) ls (v6 :: v5 :: v4 :: v3 :: v2 :: v1 :: .ref a :: st) M Q ↔ CX ev_prog y [.ref a, v1, v2, v3, v4, v5, v6] M (XK ev_prog hs cs ls st Q) := by
  have e : ev_pair (mK M a) l1 = some y := by rw [hk]; exact hp
  have e2 : (ev_pair (mK M a) l1).getD 0 = y := by rw [e]; rfl
  rw [x_virt7 ha (by rw [e]; rfl) (by rw [e2]; exact hy) hw (by rw [e2, hml]; omega), e2]
end
