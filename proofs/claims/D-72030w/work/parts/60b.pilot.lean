/-! WHOLE NUMBERS IN INTS; reads behind writes -/
theorem iI_toInt {a : Int} (h1 : -2147483648 ≤ a) (h2 : a < 2147483648) : (iI a).toInt = a := by
  unfold iI
  rw [Int32.toInt_ofInt]
  exact Int.bmod_eq_of_le (by omega) (by omega)
theorem iI_self (x : Int32) : iI x.toInt = x := Int32.ofInt_toInt x
theorem iI_rng (x : Int32) : -2147483648 ≤ x.toInt ∧ x.toInt < 2147483648 := ⟨x.minValue_le_toInt, by have := x.toInt_le; omega⟩
theorem iI_add (a b : Int) : iI a + iI b = iI (a + b) := (Int32.ofInt_add a b).symm
theorem iI_sub (a b : Int) : iI a - iI b = iI (a - b) := (Int32.ofInt_sub a b).symm
theorem iI_mul (a b : Int) : iI a * iI b = iI (a * b) := (Int32.ofInt_mul a b).symm
theorem iI_neg (a : Int) : -iI a = iI (-a) := (Int32.ofInt_neg a).symm
theorem iI_lt {a b : Int} (h1 : -2147483648 ≤ a) (h2 : a < 2147483648) (h3 : -2147483648 ≤ b) (h4 : b < 2147483648) : iI a < iI b ↔ a < b := by
  rw [Int32.lt_iff_toInt_lt, iI_toInt h1 h2, iI_toInt h3 h4]
theorem iI_le {a b : Int} (h1 : -2147483648 ≤ a) (h2 : a < 2147483648) (h3 : -2147483648 ≤ b) (h4 : b < 2147483648) : iI a ≤ iI b ↔ a ≤ b := by
  rw [Int32.le_iff_toInt_le, iI_toInt h1 h2, iI_toInt h3 h4]
theorem iI_eq {a b : Int} (h1 : -2147483648 ≤ a) (h2 : a < 2147483648) (h3 : -2147483648 ≤ b) (h4 : b < 2147483648) : iI a = iI b ↔ a = b := by
  rw [← Int32.toInt_inj, iI_toInt h1 h2, iI_toInt h3 h4]
theorem ix_iI {a : Int} (h1 : 0 ≤ a) (h2 : a < 2147483648) : ev_ix (iI a) = a.toNat := by
  unfold ev_ix Int32.toNatClampNeg
  rw [iI_toInt (by omega) h2]
theorem in_iI {a : Int} {n : Nat} (h1 : 0 ≤ a) (h2 : a < n) (h3 : n ≤ 2147483648) : ev_in (iI a) n = true := by
  unfold ev_in
  rw [iI_toInt (by omega) (by omega)]
  simp [h1, h2]
theorem in_iff {a : Int} {n : Nat} (h1 : -2147483648 ≤ a) (h2 : a < 2147483648) : (ev_in (iI a) n = true) ↔ (0 ≤ a ∧ a < n) := by
  unfold ev_in
  rw [iI_toInt h1 h2]
  simp
def b2i (b : Bool) : Int32 := if b = true then 1 else 0
theorem b2i_01 (b : Bool) : b2i b = 0 ∨ b2i b = 1 := by cases b <;> first | exact Or.inl rfl | exact Or.inr rfl
theorem b2i_t : b2i true = iI 1 := rfl
theorem b2i_f : b2i false = iI 0 := rfl
theorem b2i_eq0 (b : Bool) : (b2i b = 0) ↔ b = false := by cases b <;> decide
theorem cx_open {y n a : Nat} {b : ev_B} {vs ls : List Value} {M : ev_M} {Q : Nat → Value → ev_M → Prop} (h1 : ev_prog.1 a = b) (ha : y * 4096 = a) (h2 : ev_prog.2.1 y = n) (h3 : ev_ent n vs = ls) : CX ev_prog y vs M Q ↔ XP ev_prog b ls [] M Q := by
  subst ha
  subst h1
  subst h2
  subst h3
  exact Iff.rfl
section
variable {P : ev_P} {l : Nat} {ar : List Nat} {hs : List (Nat × Nat)} {cs : ev_B} {ls st : List Value} {M : ev_M} {Q : Nat → Value → ev_M → Prop}
/-- calls, by the receiver's kind -/
theorem y_stat3 {v0 v1 v2 : Value} {i y n : Nat} (hml : P.2.1 y = n) (hl : (ev_lay [v0, v1, v2]).length ≤ n) (hy : ¬ y = 0) (hn : ¬ y = 9000) (hw : ¬ 8 < ev_w st) : XP P (((.invokestatic i, l, [y, 3]), hs) :: cs) ls (v2 :: v1 :: v0 :: st) M Q ↔ CX P y [v0, v1, v2] M (XK P hs cs ls st Q) := x_stat3 hy hn hw (by rw [hml]; omega)
end
/-! pilot -/
section
variable {M : ev_M} {Q : Nat → Value → ev_M → Prop}
theorem c_X3_in (v lo hi : Int32) : CX ev_prog 49 [.int v, .int lo, .int hi] M Q ↔ Q 0 (.int (b2i (decide (lo ≤ v) && decide (v ≤ hi)))) M := by
  rw [cx_open (ls := [.int v, .int lo, .int hi]) bk_X3_in_0 rfl ml_X3_in rfl]
  simp only [b_X3_in_0, bk_X3_in_14, b_X3_in_14, bk_X3_in_15, b_X3_in_15, x_iloadn0, x_iloadn1, x_iloadn2, x_icmp_lt, x_icmp_gt, x_iconst, x_goto, x_fall, x_kill, ev_kill, List.set]
  by_cases h1 : v < lo
  · have h2 : ¬ lo ≤ v := Int32.not_le.mpr h1
    rw [if_pos h1, x_ireturnZ (Or.inl rfl)]
    simp only [h2, decide_false, Bool.false_and]
    exact Iff.rfl
  · have h2 : lo ≤ v := Int32.not_lt.mp h1
    rw [if_neg h1]
    by_cases h3 : hi < v
    · have h4 : ¬ v ≤ hi := Int32.not_le.mpr h3
      rw [if_pos h3, x_ireturnZ (Or.inl rfl)]
      simp only [h4, decide_false, Bool.and_false]
      exact Iff.rfl
    · have h4 : v ≤ hi := Int32.not_lt.mp h3
      rw [if_neg h3, x_ireturnZ (Or.inr rfl)]
      simp only [h2, h4, decide_true, Bool.true_and]
      exact Iff.rfl
theorem c_X3_isRow (r : Int32) : CX ev_prog 50 [.int r] M Q ↔ Q 0 (.int (b2i (decide (0 ≤ r) && decide (r ≤ 5)))) M := by
  rw [cx_open (ls := [.int r]) bk_X3_isRow_0 rfl ml_X3_isRow rfl]
  simp only [b_X3_isRow_0, x_iloadn0, x_iconst]
  rw [y_stat3 ml_X3_in (by decide) (by decide) (by decide) (by decide), c_X3_in, xk0]
  exact x_ireturnZ (b2i_01 _)
end
