/-! the classes by their kinds (by gen/classes.py) -/
def ev_cls : List vw_C := [("", fun _ => ("", "", "", false), 0), (RX0, TX0, 23), (RX3, TX3, 47), (RX1, TX1, 5), (RX4, TX4, 4), (RX6, TX6, 8), (RX7, TX7, 5), (RX8, TX8, 3), (RX9, TX9, 2), (RX5, TX5, 1), (RX2, TX2, 7), (RJ1, TJ1, 8), (RJ34, TJ34, 12), (RJ6, TJ6, 4), (RJ7, TJ7, 6), (RJ2, TJ2, 4), (RJ2, TJ2, 4), (RJ32, TJ32, 4), (RJ20, TJ20, 3), (RJ21, TJ21, 3), (RJ35, TJ35, 2), (RJ39, TJ39, 5)]
def ev_tys : List (Nat → FieldType) := [fun _ => .int, tyX0, tyX3, tyX1, tyX4, tyX6, tyX7, tyX8, tyX9, tyX5, tyX2, tyJ1, tyJ34, tyJ6, tyJ7, tyJ2, tyJ2, tyJ32, tyJ20, tyJ21, tyJ35, tyJ39]
def kz (t : Nat) : vw_C := ev_cls.getD t ("", fun _ => ("", "", "", false), 0)
def kty (t k : Nat) : FieldType := (ev_tys.getD t (fun _ => .int)) k
theorem kz_in : ∀ t, 1 ≤ t → t ≤ 21 → ∀ w ∈ u_ws (kz t).1 (kz t).2.1 (kz t).2.2, w ∈ lw_all := fun t h1 h2 => match t, h1, h2 with
  | 0, h, _ => absurd h (by decide)
  | 1, _, _ => in_X0
  | 2, _, _ => in_X3
  | 3, _, _ => in_X1
  | 4, _, _ => in_X4
  | 5, _, _ => in_X6
  | 6, _, _ => in_X7
  | 7, _, _ => in_X8
  | 8, _, _ => in_X9
  | 9, _, _ => in_X5
  | 10, _, _ => in_X2
  | 11, _, _ => in_J1
  | 12, _, _ => in_J34
  | 13, _, _ => in_J6
  | 14, _, _ => in_J7
  | 15, _, _ => in_J2
  | 16, _, _ => in_J2
  | 17, _, _ => in_J32
  | 18, _, _ => in_J20
  | 19, _, _ => in_J21
  | 20, _, _ => in_J35
  | 21, _, _ => in_J39
  | n + 22, _, h => absurd h (by omega)
theorem kz_ty : ∀ t, 1 ≤ t → t ≤ 21 → ∀ k, k < (kz t).2.2 → parseFieldDescriptor ((kz t).2.1 k).2.2.1 = some (kty t k) := fun t h1 h2 => match t, h1, h2 with
  | 0, h, _ => absurd h (by decide)
  | 1, _, _ => tyX0_ok
  | 2, _, _ => tyX3_ok
  | 3, _, _ => tyX1_ok
  | 4, _, _ => tyX4_ok
  | 5, _, _ => tyX6_ok
  | 6, _, _ => tyX7_ok
  | 7, _, _ => tyX8_ok
  | 8, _, _ => tyX9_ok
  | 9, _, _ => tyX5_ok
  | 10, _, _ => tyX2_ok
  | 11, _, _ => tyJ1_ok
  | 12, _, _ => tyJ34_ok
  | 13, _, _ => tyJ6_ok
  | 14, _, _ => tyJ7_ok
  | 15, _, _ => tyJ2_ok
  | 16, _, _ => tyJ2_ok
  | 17, _, _ => tyJ32_ok
  | 18, _, _ => tyJ20_ok
  | 19, _, _ => tyJ21_ok
  | 20, _, _ => tyJ35_ok
  | 21, _, _ => tyJ39_ok
  | n + 22, _, h => absurd h (by omega)
theorem kz_nm : ∀ t, 1 ≤ t → t ≤ 21 → ∀ a, a < (kz t).2.2 → ∀ b, b < (kz t).2.2 → a ≠ b → ((kz t).2.1 a).2.1 ≠ ((kz t).2.1 b).2.1 := fun t h1 h2 => match t, h1, h2 with
  | 0, h, _ => absurd h (by decide)
  | 1, _, _ => nmX0
  | 2, _, _ => nmX3
  | 3, _, _ => nmX1
  | 4, _, _ => nmX4
  | 5, _, _ => nmX6
  | 6, _, _ => nmX7
  | 7, _, _ => nmX8
  | 8, _, _ => nmX9
  | 9, _, _ => nmX5
  | 10, _, _ => nmX2
  | 11, _, _ => nmJ1
  | 12, _, _ => nmJ34
  | 13, _, _ => nmJ6
  | 14, _, _ => nmJ7
  | 15, _, _ => nmJ2
  | 16, _, _ => nmJ2
  | 17, _, _ => nmJ32
  | 18, _, _ => nmJ20
  | 19, _, _ => nmJ21
  | 20, _, _ => nmJ35
  | 21, _, _ => nmJ39
  | n + 22, _, h => absurd h (by omega)
