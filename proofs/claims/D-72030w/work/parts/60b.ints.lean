/-! WHOLE NUMBERS IN INTS; reads behind writes -/
theorem iI_toInt {a : Int} (h1 : -2147483648 ≤ a) (h2 : a < 2147483648) : (iI a).toInt = a := by
  unfold iI
  rw [Int32.toInt_ofInt]
  have e : (Int32.size : Int) = 4294967296 := rfl
  exact Int.bmod_eq_of_le (by omega) (by omega)
theorem iI_self (x : Int32) : iI x.toInt = x := Int32.ofInt_toInt x
theorem iI_rng (x : Int32) : -2147483648 ≤ x.toInt ∧ x.toInt < 2147483648 := ⟨x.minValue_le_toInt, by
  have h1 := x.toInt_le
  have h2 : Int32.maxValue.toInt = 2147483647 := by decide
  omega⟩
theorem iI_add (a b : Int) : iI a + iI b = iI (a + b) := (Int32.ofInt_add a b).symm
theorem iI_sub (a b : Int) : iI a - iI b = iI (a - b) := (Int32.ofInt_sub a b).symm
theorem iI_mul (a b : Int) : iI a * iI b = iI (a * b) := (Int32.ofInt_mul a b).symm
theorem iI_neg (a : Int) : -iI a = iI (-a) := (Int32.ofInt_neg a).symm
theorem iI_lt {a b : Int} (h1 : -2147483648 ≤ a) (h2 : a < 2147483648) (h3 : -2147483648 ≤ b) (h4 : b < 2147483648) : iI a < iI b ↔ a < b := by
  rw [Int32.lt_iff_toInt_lt, iI_toInt h1 h2, iI_toInt h3 h4]
theorem iI_le {a b : Int} (h1 : -2147483648 ≤ a) (h2 : a < 2147483648) (h3 : -2147483648 ≤ b) (h4 : b < 2147483648) : iI a ≤ iI b ↔ a ≤ b := by
  rw [Int32.le_iff_toInt_le, iI_toInt h1 h2, iI_toInt h3 h4]
theorem iI_eq {a b : Int} (h1 : -2147483648 ≤ a) (h2 : a < 2147483648) (h3 : -2147483648 ≤ b) (h4 : b < 2147483648) : iI a = iI b ↔ a = b := by
  rw [← Int32.toInt_inj, iI_toInt h1 h2, iI_toInt h3 h4]
theorem ix_iI {a : Int} (h1 : 0 ≤ a) (h2 : a < 2147483648) : ev_ix (iI a) = a.toNat := by
  unfold ev_ix Int32.toNatClampNeg
  rw [iI_toInt (by omega) h2]
theorem in_iI {a : Int} {n : Nat} (h1 : 0 ≤ a) (h2 : a < n) (h3 : n ≤ 2147483648) : ev_in (iI a) n = true := by
  unfold ev_in
  rw [iI_toInt (by omega) (by omega)]
  simp [h1, h2]
theorem in_iff {a : Int} {n : Nat} (h1 : -2147483648 ≤ a) (h2 : a < 2147483648) : (ev_in (iI a) n = true) ↔ (0 ≤ a ∧ a < n) := by
  unfold ev_in
  rw [iI_toInt h1 h2]
  simp
def b2i (b : Bool) : Int32 := if b = true then 1 else 0
theorem b2i_01 (b : Bool) : b2i b = 0 ∨ b2i b = 1 := by cases b <;> first | exact Or.inl rfl | exact Or.inr rfl
theorem b2i_t : b2i true = iI 1 := rfl
theorem b2i_f : b2i false = iI 0 := rfl
theorem b2i_eq0 (b : Bool) : (b2i b = 0) ↔ b = false := by cases b <;> decide
theorem cx_open {y n a : Nat} {b : ev_B} {vs ls : List Value} {M : ev_M} {Q : Nat → Value → ev_M → Prop} (h1 : ev_prog.1 a = b) (ha : y * 4096 = a) (h2 : ev_prog.2.1 y = n) (h3 : ev_ent n vs = ls) : CX ev_prog y vs M Q ↔ XP ev_prog b ls [] M Q := by
  subst ha
  subst h1
  subst h2
  subst h3
  exact Iff.rfl
