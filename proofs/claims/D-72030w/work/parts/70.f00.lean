/-! THE METHODS AS FUNCTIONS 0 (by gen/fun.py) -/
set_option maxRecDepth 100000
def F_X3_init_303   (M : ev_M) : Option ev_M := some M
theorem sF_X3_init_303   {z0 : Value} {z1 : Value} {M : ev_M} {Q : Nat → Value → ev_M → Prop} {r : ev_M} (h : F_X3_init_303   M = some r) (hq : Q 0 jk r) : XP ev_prog b_X3_init_303 [z0, z1] [] M Q := by
  unfold F_X3_init_303 at h
  cases h
  exact x_return.mpr hq
def F_X3_init_283_p1 (k283 : Nat → Int32 → ev_M → Option ev_M) (a0 : Nat) (i1 : Int32)  (M : ev_M) : Option ev_M := k283 a0 (i1 + iI (1)) M
theorem sF_X3_init_283_p1 {k283 : Nat → Int32 → ev_M → Option ev_M} (hk283 : ∀ (a0 : Nat) (i1 : Int32) (M : ev_M) (r : ev_M), k283 a0 i1 M = some r → ∀ (Q : Nat → Value → ev_M → Prop), Q 0 jk r → XP ev_prog b_X3_init_283 [.ref a0, .int i1] [] M Q){a0 : Nat} {i1 : Int32}   {M : ev_M} {Q : Nat → Value → ev_M → Prop} {r : ev_M} (h : F_X3_init_283_p1 k283 a0 i1  M = some r) (hq : Q 0 jk r) : XP ev_prog [((.iinc 1 1, 3, []), []), ((.goto (-17), 3, [172315]), [])] [.ref a0, .int i1] [] M Q := by
  unfold F_X3_init_283_p1 at h
  refine x_iinc1.mpr ?_
  refine x_goto.mpr ?_
  rw [bk_X3_init_283]
  exact hk283 _ _ _ _ _ h _ hq
def F_X3_init_283 (k283 : Nat → Int32 → ev_M → Option ev_M) (a0 : Nat) (i1 : Int32)  (M : ev_M) : Option ev_M := (if (iI (144)) ≤ i1 then F_X3_init_303   M else (if ([2] : List Nat).contains (mK M a0) = true then (if mK M (mA M a0 3) = 40 ∧ ev_in i1 (mN M (mA M a0 3)) = true then F_X3_init_283_p1 k283 a0 i1  (wI M (mA M a0 3) (ev_ix i1) (iI (-1))) else none) else none))
theorem sF_X3_init_283 {k283 : Nat → Int32 → ev_M → Option ev_M} (hk283 : ∀ (a0 : Nat) (i1 : Int32) (M : ev_M) (r : ev_M), k283 a0 i1 M = some r → ∀ (Q : Nat → Value → ev_M → Prop), Q 0 jk r → XP ev_prog b_X3_init_283 [.ref a0, .int i1] [] M Q){a0 : Nat} {i1 : Int32}   {M : ev_M} {Q : Nat → Value → ev_M → Prop} {r : ev_M} (h : F_X3_init_283 k283 a0 i1  M = some r) (hq : Q 0 jk r) : XP ev_prog b_X3_init_283 [.ref a0, .int i1] [] M Q := by
  unfold F_X3_init_283 at h
  refine x_iloadn1.mpr ?_
  refine (x_sipush (by decide)).mpr ?_
  rcases ife h with ⟨hc, h⟩ | ⟨hc, h⟩
  · rw [x_icmp_ge, if_pos hc, bk_X3_init_303]
    exact sF_X3_init_303 h hq
  · rw [x_icmp_ge, if_neg hc]
    refine x_aloadn0.mpr ?_
    obtain ⟨hc, h⟩ := gd h
    refine (x_getf4 hc).mpr ?_
    refine x_iloadn1.mpr ?_
    refine x_iconst.mpr ?_
    obtain ⟨hc, h⟩ := gd h
    refine (x_iastore hc.1 hc.2).mpr ?_
    exact sF_X3_init_283_p1 hk283 h hq
def W_X3_init_283 : Nat → Nat → Int32 → ev_M → Option ev_M
  | 0 => fun _ => fun _ => fun _ => none
  | n + 1 => fun a0 i1 M => F_X3_init_283 (W_X3_init_283 n) a0 i1 M
theorem sW_X3_init_283  : ∀ (n : Nat) {a0 : Nat} {i1 : Int32} {M : ev_M} {r : ev_M} (h : W_X3_init_283 n a0 i1 M = some r)  {Q : Nat → Value → ev_M → Prop} (hq : Q 0 jk r), XP ev_prog b_X3_init_283 [.ref a0, .int i1] [] M Q := by
  intro n
  induction n with
  | zero => intro a0 i1 M r h; cases h
  | succ n ih => intro a0 i1 M r h  Q hq; exact sF_X3_init_283 (fun a0 i1 M r h  Q hq => ih h hq) h hq
def F_X3_init_281 (a0 : Nat)  (M : ev_M) : Option ev_M := W_X3_init_283 5000 a0 (iI (0)) M
theorem sF_X3_init_281 {a0 : Nat}  {z1 : Value} {M : ev_M} {Q : Nat → Value → ev_M → Prop} {r : ev_M} (h : F_X3_init_281 a0  M = some r) (hq : Q 0 jk r) : XP ev_prog b_X3_init_281 [.ref a0, z1] [] M Q := by
  unfold F_X3_init_281 at h
  refine x_iconst.mpr ?_
  refine x_istoren1.mpr ?_
  refine x_fall.mpr ?_
  rw [bk_X3_init_283]
  exact sW_X3_init_283 5000 h hq
def F_X3_init_262_p1 (k262 : Nat → Int32 → ev_M → Option ev_M) (a0 : Nat) (i1 : Int32)  (M : ev_M) : Option ev_M := k262 a0 (i1 + iI (1)) M
theorem sF_X3_init_262_p1 {k262 : Nat → Int32 → ev_M → Option ev_M} (hk262 : ∀ (a0 : Nat) (i1 : Int32) (M : ev_M) (r : ev_M), k262 a0 i1 M = some r → ∀ (Q : Nat → Value → ev_M → Prop), Q 0 jk r → XP ev_prog b_X3_init_262 [.ref a0, .int i1] [] M Q){a0 : Nat} {i1 : Int32}   {M : ev_M} {Q : Nat → Value → ev_M → Prop} {r : ev_M} (h : F_X3_init_262_p1 k262 a0 i1  M = some r) (hq : Q 0 jk r) : XP ev_prog [((.iinc 1 1, 3, []), []), ((.goto (-16), 3, [172294]), [])] [.ref a0, .int i1] [] M Q := by
  unfold F_X3_init_262_p1 at h
  refine x_iinc1.mpr ?_
  refine x_goto.mpr ?_
  rw [bk_X3_init_262]
  exact hk262 _ _ _ _ _ h _ hq
def F_X3_init_262 (k262 : Nat → Int32 → ev_M → Option ev_M) (a0 : Nat) (i1 : Int32)  (M : ev_M) : Option ev_M := (if (iI (6)) ≤ i1 then F_X3_init_281 a0  M else (if ([2] : List Nat).contains (mK M a0) = true then (if mK M (mA M a0 0) = 40 ∧ ev_in i1 (mN M (mA M a0 0)) = true then F_X3_init_262_p1 k262 a0 i1  (wI M (mA M a0 0) (ev_ix i1) (iI (-1))) else none) else none))
theorem sF_X3_init_262 {k262 : Nat → Int32 → ev_M → Option ev_M} (hk262 : ∀ (a0 : Nat) (i1 : Int32) (M : ev_M) (r : ev_M), k262 a0 i1 M = some r → ∀ (Q : Nat → Value → ev_M → Prop), Q 0 jk r → XP ev_prog b_X3_init_262 [.ref a0, .int i1] [] M Q){a0 : Nat} {i1 : Int32}   {M : ev_M} {Q : Nat → Value → ev_M → Prop} {r : ev_M} (h : F_X3_init_262 k262 a0 i1  M = some r) (hq : Q 0 jk r) : XP ev_prog b_X3_init_262 [.ref a0, .int i1] [] M Q := by
  unfold F_X3_init_262 at h
  refine x_iloadn1.mpr ?_
  refine (x_bipush (by decide)).mpr ?_
  rcases ife h with ⟨hc, h⟩ | ⟨hc, h⟩
  · rw [x_icmp_ge, if_pos hc, bk_X3_init_281]
    exact sF_X3_init_281 h hq
  · rw [x_icmp_ge, if_neg hc]
    refine x_aloadn0.mpr ?_
    obtain ⟨hc, h⟩ := gd h
    refine (x_getf4 hc).mpr ?_
    refine x_iloadn1.mpr ?_
    refine x_iconst.mpr ?_
    obtain ⟨hc, h⟩ := gd h
    refine (x_iastore hc.1 hc.2).mpr ?_
    exact sF_X3_init_262_p1 hk262 h hq
def W_X3_init_262 : Nat → Nat → Int32 → ev_M → Option ev_M
  | 0 => fun _ => fun _ => fun _ => none
  | n + 1 => fun a0 i1 M => F_X3_init_262 (W_X3_init_262 n) a0 i1 M
theorem sW_X3_init_262  : ∀ (n : Nat) {a0 : Nat} {i1 : Int32} {M : ev_M} {r : ev_M} (h : W_X3_init_262 n a0 i1 M = some r)  {Q : Nat → Value → ev_M → Prop} (hq : Q 0 jk r), XP ev_prog b_X3_init_262 [.ref a0, .int i1] [] M Q := by
  intro n
  induction n with
  | zero => intro a0 i1 M r h; cases h
  | succ n ih => intro a0 i1 M r h  Q hq; exact sF_X3_init_262 (fun a0 i1 M r h  Q hq => ih h hq) h hq
def F_X3_init_0_p2080 (a0 : Nat)  (M : ev_M) : Option ev_M := W_X3_init_262 5000 a0 (iI (0)) M
theorem sF_X3_init_0_p2080 {a0 : Nat}  {z1 : Value} {M : ev_M} {Q : Nat → Value → ev_M → Prop} {r : ev_M} (h : F_X3_init_0_p2080 a0  M = some r) (hq : Q 0 jk r) : XP ev_prog [((.iconst 0, 1, []), []), ((.istore_n 1, 1, []), []), ((.nop, 0, [0, 172294]), [])] [.ref a0, z1] [] M Q := by
  unfold F_X3_init_0_p2080 at h
  refine x_iconst.mpr ?_
  refine x_istoren1.mpr ?_
  refine x_fall.mpr ?_
  rw [bk_X3_init_262]
  exact sW_X3_init_262 5000 h hq
def F_X3_init_0_p2016 (a0 : Nat) (s0 : Nat) (s1 : Nat) (M : ev_M) : Option ev_M := (if ([2] : List Nat).contains (mK M s1) = true then F_X3_init_0_p2080 a0  (wA M s1 46 s0) else none)
theorem sF_X3_init_0_p2016 {a0 : Nat} {s0 : Nat} {s1 : Nat} {z1 : Value} {M : ev_M} {Q : Nat → Value → ev_M → Prop} {r : ev_M} (h : F_X3_init_0_p2016 a0 s0 s1 M = some r) (hq : Q 0 jk r) : XP ev_prog [((.putfield 105, 3, [0, 4, 46, 2]), []), ((.iconst 0, 1, []), []), ((.istore_n 1, 1, []), []), ((.nop, 0, [0, 172294]), [])] [.ref a0, z1] [.ref s0, .ref s1] M Q := by
  unfold F_X3_init_0_p2016 at h
  obtain ⟨hc, h⟩ := gd h
  refine (x_putf4 hc).mpr ?_
  exact sF_X3_init_0_p2080 h hq
def F_X3_init_0_p1953 (a0 : Nat)  (M : ev_M) : Option ev_M := (if 0 ≤ ((iI (3))).toInt ∧ ((iI (3))).toInt ≤ 100000 then F_X3_init_0_p2016 a0 (nx M) a0 (wN M 40 (ev_ix (iI (3))) (ev_ix (iI (3)))) else none)
theorem sF_X3_init_0_p1953 {a0 : Nat}  {z1 : Value} {M : ev_M} {Q : Nat → Value → ev_M → Prop} {r : ev_M} (h : F_X3_init_0_p1953 a0  M = some r) (hq : Q 0 jk r) : XP ev_prog [((.aload_n 0, 1, []), []), ((.iconst 3, 1, []), []), ((.newarray .int, 2, [40]), []), ((.putfield 105, 3, [0, 4, 46, 2]), []), ((.iconst 0, 1, []), []), ((.istore_n 1, 1, []), []), ((.nop, 0, [0, 172294]), [])] [.ref a0, z1] [] M Q := by
  unfold F_X3_init_0_p1953 at h
  refine x_aloadn0.mpr ?_
  refine x_iconst.mpr ?_
  obtain ⟨hc, h⟩ := gd h
  refine (x_newa hc).mpr ?_
  exact sF_X3_init_0_p2016 h hq
def F_X3_init_0_p1891 (a0 : Nat) (s0 : Nat) (s1 : Nat) (M : ev_M) : Option ev_M := (if ([2] : List Nat).contains (mK M s1) = true then F_X3_init_0_p1953 a0  (wA M s1 45 s0) else none)
theorem sF_X3_init_0_p1891 {a0 : Nat} {s0 : Nat} {s1 : Nat} {z1 : Value} {M : ev_M} {Q : Nat → Value → ev_M → Prop} {r : ev_M} (h : F_X3_init_0_p1891 a0 s0 s1 M = some r) (hq : Q 0 jk r) : XP ev_prog [((.putfield 102, 3, [0, 4, 45, 2]), []), ((.aload_n 0, 1, []), []), ((.iconst 3, 1, []), []), ((.newarray .int, 2, [40]), []), ((.putfield 105, 3, [0, 4, 46, 2]), []), ((.iconst 0, 1, []), []), ((.istore_n 1, 1, []), []), ((.nop, 0, [0, 172294]), [])] [.ref a0, z1] [.ref s0, .ref s1] M Q := by
  unfold F_X3_init_0_p1891 at h
  obtain ⟨hc, h⟩ := gd h
  refine (x_putf4 hc).mpr ?_
  exact sF_X3_init_0_p1953 h hq
def F_X3_init_0_p1830 (a0 : Nat)  (M : ev_M) : Option ev_M := (if 0 ≤ ((iI (3))).toInt ∧ ((iI (3))).toInt ≤ 100000 then F_X3_init_0_p1891 a0 (nx M) a0 (wN M 40 (ev_ix (iI (3))) (ev_ix (iI (3)))) else none)
theorem sF_X3_init_0_p1830 {a0 : Nat}  {z1 : Value} {M : ev_M} {Q : Nat → Value → ev_M → Prop} {r : ev_M} (h : F_X3_init_0_p1830 a0  M = some r) (hq : Q 0 jk r) : XP ev_prog [((.aload_n 0, 1, []), []), ((.iconst 3, 1, []), []), ((.newarray .int, 2, [40]), []), ((.putfield 102, 3, [0, 4, 45, 2]), []), ((.aload_n 0, 1, []), []), ((.iconst 3, 1, []), []), ((.newarray .int, 2, [40]), []), ((.putfield 105, 3, [0, 4, 46, 2]), []), ((.iconst 0, 1, []), []), ((.istore_n 1, 1, []), []), ((.nop, 0, [0, 172294]), [])] [.ref a0, z1] [] M Q := by
  unfold F_X3_init_0_p1830 at h
  refine x_aloadn0.mpr ?_
  refine x_iconst.mpr ?_
  obtain ⟨hc, h⟩ := gd h
  refine (x_newa hc).mpr ?_
  exact sF_X3_init_0_p1891 h hq
def F_X3_init_0_p1770 (a0 : Nat) (s0 : Nat) (s1 : Nat) (M : ev_M) : Option ev_M := (if ([2] : List Nat).contains (mK M s1) = true then F_X3_init_0_p1830 a0  (wA M s1 44 s0) else none)
theorem sF_X3_init_0_p1770 {a0 : Nat} {s0 : Nat} {s1 : Nat} {z1 : Value} {M : ev_M} {Q : Nat → Value → ev_M → Prop} {r : ev_M} (h : F_X3_init_0_p1770 a0 s0 s1 M = some r) (hq : Q 0 jk r) : XP ev_prog [((.putfield 99, 3, [0, 4, 44, 2]), []), ((.aload_n 0, 1, []), []), ((.iconst 3, 1, []), []), ((.newarray .int, 2, [40]), []), ((.putfield 102, 3, [0, 4, 45, 2]), []), ((.aload_n 0, 1, []), []), ((.iconst 3, 1, []), []), ((.newarray .int, 2, [40]), []), ((.putfield 105, 3, [0, 4, 46, 2]), []), ((.iconst 0, 1, []), []), ((.istore_n 1, 1, []), []), ((.nop, 0, [0, 172294]), [])] [.ref a0, z1] [.ref s0, .ref s1] M Q := by
  unfold F_X3_init_0_p1770 at h
  obtain ⟨hc, h⟩ := gd h
  refine (x_putf4 hc).mpr ?_
  exact sF_X3_init_0_p1830 h hq
def F_X3_init_0_p1711 (a0 : Nat)  (M : ev_M) : Option ev_M := (if 0 ≤ ((iI (10))).toInt ∧ ((iI (10))).toInt ≤ 100000 then F_X3_init_0_p1770 a0 (nx M) a0 (wN M 40 (ev_ix (iI (10))) (ev_ix (iI (10)))) else none)
theorem sF_X3_init_0_p1711 {a0 : Nat}  {z1 : Value} {M : ev_M} {Q : Nat → Value → ev_M → Prop} {r : ev_M} (h : F_X3_init_0_p1711 a0  M = some r) (hq : Q 0 jk r) : XP ev_prog [((.aload_n 0, 1, []), []), ((.bipush 10, 2, []), []), ((.newarray .int, 2, [40]), []), ((.putfield 99, 3, [0, 4, 44, 2]), []), ((.aload_n 0, 1, []), []), ((.iconst 3, 1, []), []), ((.newarray .int, 2, [40]), []), ((.putfield 102, 3, [0, 4, 45, 2]), []), ((.aload_n 0, 1, []), []), ((.iconst 3, 1, []), []), ((.newarray .int, 2, [40]), []), ((.putfield 105, 3, [0, 4, 46, 2]), []), ((.iconst 0, 1, []), []), ((.istore_n 1, 1, []), []), ((.nop, 0, [0, 172294]), [])] [.ref a0, z1] [] M Q := by
  unfold F_X3_init_0_p1711 at h
  refine x_aloadn0.mpr ?_
  refine (x_bipush (by decide)).mpr ?_
  obtain ⟨hc, h⟩ := gd h
  refine (x_newa hc).mpr ?_
  exact sF_X3_init_0_p1770 h hq
def F_X3_init_0_p1653 (a0 : Nat) (s0 : Nat) (s1 : Nat) (M : ev_M) : Option ev_M := (if ([2] : List Nat).contains (mK M s1) = true then F_X3_init_0_p1711 a0  (wA M s1 43 s0) else none)
theorem sF_X3_init_0_p1653 {a0 : Nat} {s0 : Nat} {s1 : Nat} {z1 : Value} {M : ev_M} {Q : Nat → Value → ev_M → Prop} {r : ev_M} (h : F_X3_init_0_p1653 a0 s0 s1 M = some r) (hq : Q 0 jk r) : XP ev_prog [((.putfield 96, 3, [0, 4, 43, 2]), []), ((.aload_n 0, 1, []), []), ((.bipush 10, 2, []), []), ((.newarray .int, 2, [40]), []), ((.putfield 99, 3, [0, 4, 44, 2]), []), ((.aload_n 0, 1, []), []), ((.iconst 3, 1, []), []), ((.newarray .int, 2, [40]), []), ((.putfield 102, 3, [0, 4, 45, 2]), []), ((.aload_n 0, 1, []), []), ((.iconst 3, 1, []), []), ((.newarray .int, 2, [40]), []), ((.putfield 105, 3, [0, 4, 46, 2]), []), ((.iconst 0, 1, []), []), ((.istore_n 1, 1, []), []), ((.nop, 0, [0, 172294]), [])] [.ref a0, z1] [.ref s0, .ref s1] M Q := by
  unfold F_X3_init_0_p1653 at h
  obtain ⟨hc, h⟩ := gd h
  refine (x_putf4 hc).mpr ?_
  exact sF_X3_init_0_p1711 h hq
def F_X3_init_0_p1596 (a0 : Nat)  (M : ev_M) : Option ev_M := (if 0 ≤ ((iI (144))).toInt ∧ ((iI (144))).toInt ≤ 100000 then F_X3_init_0_p1653 a0 (nx M) a0 (wN M 40 (ev_ix (iI (144))) (ev_ix (iI (144)))) else none)
theorem sF_X3_init_0_p1596 {a0 : Nat}  {z1 : Value} {M : ev_M} {Q : Nat → Value → ev_M → Prop} {r : ev_M} (h : F_X3_init_0_p1596 a0  M = some r) (hq : Q 0 jk r) : XP ev_prog [((.aload_n 0, 1, []), []), ((.sipush 144, 3, []), []), ((.newarray .int, 2, [40]), []), ((.putfield 96, 3, [0, 4, 43, 2]), []), ((.aload_n 0, 1, []), []), ((.bipush 10, 2, []), []), ((.newarray .int, 2, [40]), []), ((.putfield 99, 3, [0, 4, 44, 2]), []), ((.aload_n 0, 1, []), []), ((.iconst 3, 1, []), []), ((.newarray .int, 2, [40]), []), ((.putfield 102, 3, [0, 4, 45, 2]), []), ((.aload_n 0, 1, []), []), ((.iconst 3, 1, []), []), ((.newarray .int, 2, [40]), []), ((.putfield 105, 3, [0, 4, 46, 2]), []), ((.iconst 0, 1, []), []), ((.istore_n 1, 1, []), []), ((.nop, 0, [0, 172294]), [])] [.ref a0, z1] [] M Q := by
  unfold F_X3_init_0_p1596 at h
  refine x_aloadn0.mpr ?_
  refine (x_sipush (by decide)).mpr ?_
  obtain ⟨hc, h⟩ := gd h
  refine (x_newa hc).mpr ?_
  exact sF_X3_init_0_p1653 h hq
def F_X3_init_0_p1540 (a0 : Nat) (s0 : Nat) (s1 : Nat) (M : ev_M) : Option ev_M := (if ([2] : List Nat).contains (mK M s1) = true then F_X3_init_0_p1596 a0  (wA M s1 42 s0) else none)
theorem sF_X3_init_0_p1540 {a0 : Nat} {s0 : Nat} {s1 : Nat} {z1 : Value} {M : ev_M} {Q : Nat → Value → ev_M → Prop} {r : ev_M} (h : F_X3_init_0_p1540 a0 s0 s1 M = some r) (hq : Q 0 jk r) : XP ev_prog [((.putfield 93, 3, [0, 4, 42, 2]), []), ((.aload_n 0, 1, []), []), ((.sipush 144, 3, []), []), ((.newarray .int, 2, [40]), []), ((.putfield 96, 3, [0, 4, 43, 2]), []), ((.aload_n 0, 1, []), []), ((.bipush 10, 2, []), []), ((.newarray .int, 2, [40]), []), ((.putfield 99, 3, [0, 4, 44, 2]), []), ((.aload_n 0, 1, []), []), ((.iconst 3, 1, []), []), ((.newarray .int, 2, [40]), []), ((.putfield 102, 3, [0, 4, 45, 2]), []), ((.aload_n 0, 1, []), []), ((.iconst 3, 1, []), []), ((.newarray .int, 2, [40]), []), ((.putfield 105, 3, [0, 4, 46, 2]), []), ((.iconst 0, 1, []), []), ((.istore_n 1, 1, []), []), ((.nop, 0, [0, 172294]), [])] [.ref a0, z1] [.ref s0, .ref s1] M Q := by
  unfold F_X3_init_0_p1540 at h
  obtain ⟨hc, h⟩ := gd h
  refine (x_putf4 hc).mpr ?_
  exact sF_X3_init_0_p1596 h hq
def F_X3_init_0_p1485 (a0 : Nat)  (M : ev_M) : Option ev_M := (if 0 ≤ ((iI (144))).toInt ∧ ((iI (144))).toInt ≤ 100000 then F_X3_init_0_p1540 a0 (nx M) a0 (wN M 43 (ev_ix (iI (144))) (ev_ix (iI (144)))) else none)
theorem sF_X3_init_0_p1485 {a0 : Nat}  {z1 : Value} {M : ev_M} {Q : Nat → Value → ev_M → Prop} {r : ev_M} (h : F_X3_init_0_p1485 a0  M = some r) (hq : Q 0 jk r) : XP ev_prog [((.aload_n 0, 1, []), []), ((.sipush 144, 3, []), []), ((.newarray .double, 2, [43]), []), ((.putfield 93, 3, [0, 4, 42, 2]), []), ((.aload_n 0, 1, []), []), ((.sipush 144, 3, []), []), ((.newarray .int, 2, [40]), []), ((.putfield 96, 3, [0, 4, 43, 2]), []), ((.aload_n 0, 1, []), []), ((.bipush 10, 2, []), []), ((.newarray .int, 2, [40]), []), ((.putfield 99, 3, [0, 4, 44, 2]), []), ((.aload_n 0, 1, []), []), ((.iconst 3, 1, []), []), ((.newarray .int, 2, [40]), []), ((.putfield 102, 3, [0, 4, 45, 2]), []), ((.aload_n 0, 1, []), []), ((.iconst 3, 1, []), []), ((.newarray .int, 2, [40]), []), ((.putfield 105, 3, [0, 4, 46, 2]), []), ((.iconst 0, 1, []), []), ((.istore_n 1, 1, []), []), ((.nop, 0, [0, 172294]), [])] [.ref a0, z1] [] M Q := by
  unfold F_X3_init_0_p1485 at h
  refine x_aloadn0.mpr ?_
  refine (x_sipush (by decide)).mpr ?_
  obtain ⟨hc, h⟩ := gd h
  refine (x_newa hc).mpr ?_
  exact sF_X3_init_0_p1540 h hq
def F_X3_init_0_p1431 (a0 : Nat) (s0 : Nat) (s1 : Nat) (M : ev_M) : Option ev_M := (if ([2] : List Nat).contains (mK M s1) = true then F_X3_init_0_p1485 a0  (wA M s1 41 s0) else none)
theorem sF_X3_init_0_p1431 {a0 : Nat} {s0 : Nat} {s1 : Nat} {z1 : Value} {M : ev_M} {Q : Nat → Value → ev_M → Prop} {r : ev_M} (h : F_X3_init_0_p1431 a0 s0 s1 M = some r) (hq : Q 0 jk r) : XP ev_prog [((.putfield 90, 3, [0, 4, 41, 2]), []), ((.aload_n 0, 1, []), []), ((.sipush 144, 3, []), []), ((.newarray .double, 2, [43]), []), ((.putfield 93, 3, [0, 4, 42, 2]), []), ((.aload_n 0, 1, []), []), ((.sipush 144, 3, []), []), ((.newarray .int, 2, [40]), []), ((.putfield 96, 3, [0, 4, 43, 2]), []), ((.aload_n 0, 1, []), []), ((.bipush 10, 2, []), []), ((.newarray .int, 2, [40]), []), ((.putfield 99, 3, [0, 4, 44, 2]), []), ((.aload_n 0, 1, []), []), ((.iconst 3, 1, []), []), ((.newarray .int, 2, [40]), []), ((.putfield 102, 3, [0, 4, 45, 2]), []), ((.aload_n 0, 1, []), []), ((.iconst 3, 1, []), []), ((.newarray .int, 2, [40]), []), ((.putfield 105, 3, [0, 4, 46, 2]), []), ((.iconst 0, 1, []), []), ((.istore_n 1, 1, []), []), ((.nop, 0, [0, 172294]), [])] [.ref a0, z1] [.ref s0, .ref s1] M Q := by
  unfold F_X3_init_0_p1431 at h
  obtain ⟨hc, h⟩ := gd h
  refine (x_putf4 hc).mpr ?_
  exact sF_X3_init_0_p1485 h hq
def F_X3_init_0_p1378 (a0 : Nat)  (M : ev_M) : Option ev_M := (if 0 ≤ ((iI (144))).toInt ∧ ((iI (144))).toInt ≤ 100000 then F_X3_init_0_p1431 a0 (nx M) a0 (wN M 43 (ev_ix (iI (144))) (ev_ix (iI (144)))) else none)
theorem sF_X3_init_0_p1378 {a0 : Nat}  {z1 : Value} {M : ev_M} {Q : Nat → Value → ev_M → Prop} {r : ev_M} (h : F_X3_init_0_p1378 a0  M = some r) (hq : Q 0 jk r) : XP ev_prog [((.aload_n 0, 1, []), []), ((.sipush 144, 3, []), []), ((.newarray .double, 2, [43]), []), ((.putfield 90, 3, [0, 4, 41, 2]), []), ((.aload_n 0, 1, []), []), ((.sipush 144, 3, []), []), ((.newarray .double, 2, [43]), []), ((.putfield 93, 3, [0, 4, 42, 2]), []), ((.aload_n 0, 1, []), []), ((.sipush 144, 3, []), []), ((.newarray .int, 2, [40]), []), ((.putfield 96, 3, [0, 4, 43, 2]), []), ((.aload_n 0, 1, []), []), ((.bipush 10, 2, []), []), ((.newarray .int, 2, [40]), []), ((.putfield 99, 3, [0, 4, 44, 2]), []), ((.aload_n 0, 1, []), []), ((.iconst 3, 1, []), []), ((.newarray .int, 2, [40]), []), ((.putfield 102, 3, [0, 4, 45, 2]), []), ((.aload_n 0, 1, []), []), ((.iconst 3, 1, []), []), ((.newarray .int, 2, [40]), []), ((.putfield 105, 3, [0, 4, 46, 2]), []), ((.iconst 0, 1, []), []), ((.istore_n 1, 1, []), []), ((.nop, 0, [0, 172294]), [])] [.ref a0, z1] [] M Q := by
  unfold F_X3_init_0_p1378 at h
  refine x_aloadn0.mpr ?_
  refine (x_sipush (by decide)).mpr ?_
  obtain ⟨hc, h⟩ := gd h
  refine (x_newa hc).mpr ?_
  exact sF_X3_init_0_p1431 h hq
def F_X3_init_0_p1326 (a0 : Nat) (s0 : Nat) (s1 : Nat) (M : ev_M) : Option ev_M := (if ([2] : List Nat).contains (mK M s1) = true then F_X3_init_0_p1378 a0  (wA M s1 40 s0) else none)
theorem sF_X3_init_0_p1326 {a0 : Nat} {s0 : Nat} {s1 : Nat} {z1 : Value} {M : ev_M} {Q : Nat → Value → ev_M → Prop} {r : ev_M} (h : F_X3_init_0_p1326 a0 s0 s1 M = some r) (hq : Q 0 jk r) : XP ev_prog [((.putfield 87, 3, [0, 4, 40, 2]), []), ((.aload_n 0, 1, []), []), ((.sipush 144, 3, []), []), ((.newarray .double, 2, [43]), []), ((.putfield 90, 3, [0, 4, 41, 2]), []), ((.aload_n 0, 1, []), []), ((.sipush 144, 3, []), []), ((.newarray .double, 2, [43]), []), ((.putfield 93, 3, [0, 4, 42, 2]), []), ((.aload_n 0, 1, []), []), ((.sipush 144, 3, []), []), ((.newarray .int, 2, [40]), []), ((.putfield 96, 3, [0, 4, 43, 2]), []), ((.aload_n 0, 1, []), []), ((.bipush 10, 2, []), []), ((.newarray .int, 2, [40]), []), ((.putfield 99, 3, [0, 4, 44, 2]), []), ((.aload_n 0, 1, []), []), ((.iconst 3, 1, []), []), ((.newarray .int, 2, [40]), []), ((.putfield 102, 3, [0, 4, 45, 2]), []), ((.aload_n 0, 1, []), []), ((.iconst 3, 1, []), []), ((.newarray .int, 2, [40]), []), ((.putfield 105, 3, [0, 4, 46, 2]), []), ((.iconst 0, 1, []), []), ((.istore_n 1, 1, []), []), ((.nop, 0, [0, 172294]), [])] [.ref a0, z1] [.ref s0, .ref s1] M Q := by
  unfold F_X3_init_0_p1326 at h
  obtain ⟨hc, h⟩ := gd h
  refine (x_putf4 hc).mpr ?_
  exact sF_X3_init_0_p1378 h hq
def F_X3_init_0_p1275 (a0 : Nat)  (M : ev_M) : Option ev_M := (if 0 ≤ ((iI (10))).toInt ∧ ((iI (10))).toInt ≤ 100000 then F_X3_init_0_p1326 a0 (nx M) a0 (wN M 40 (ev_ix (iI (10))) (ev_ix (iI (10)))) else none)
theorem sF_X3_init_0_p1275 {a0 : Nat}  {z1 : Value} {M : ev_M} {Q : Nat → Value → ev_M → Prop} {r : ev_M} (h : F_X3_init_0_p1275 a0  M = some r) (hq : Q 0 jk r) : XP ev_prog [((.aload_n 0, 1, []), []), ((.bipush 10, 2, []), []), ((.newarray .int, 2, [40]), []), ((.putfield 87, 3, [0, 4, 40, 2]), []), ((.aload_n 0, 1, []), []), ((.sipush 144, 3, []), []), ((.newarray .double, 2, [43]), []), ((.putfield 90, 3, [0, 4, 41, 2]), []), ((.aload_n 0, 1, []), []), ((.sipush 144, 3, []), []), ((.newarray .double, 2, [43]), []), ((.putfield 93, 3, [0, 4, 42, 2]), []), ((.aload_n 0, 1, []), []), ((.sipush 144, 3, []), []), ((.newarray .int, 2, [40]), []), ((.putfield 96, 3, [0, 4, 43, 2]), []), ((.aload_n 0, 1, []), []), ((.bipush 10, 2, []), []), ((.newarray .int, 2, [40]), []), ((.putfield 99, 3, [0, 4, 44, 2]), []), ((.aload_n 0, 1, []), []), ((.iconst 3, 1, []), []), ((.newarray .int, 2, [40]), []), ((.putfield 102, 3, [0, 4, 45, 2]), []), ((.aload_n 0, 1, []), []), ((.iconst 3, 1, []), []), ((.newarray .int, 2, [40]), []), ((.putfield 105, 3, [0, 4, 46, 2]), []), ((.iconst 0, 1, []), []), ((.istore_n 1, 1, []), []), ((.nop, 0, [0, 172294]), [])] [.ref a0, z1] [] M Q := by
  unfold F_X3_init_0_p1275 at h
  refine x_aloadn0.mpr ?_
  refine (x_bipush (by decide)).mpr ?_
  obtain ⟨hc, h⟩ := gd h
  refine (x_newa hc).mpr ?_
  exact sF_X3_init_0_p1326 h hq
def F_X3_init_0_p1225 (a0 : Nat) (s0 : Nat) (s1 : Nat) (M : ev_M) : Option ev_M := (if ([2] : List Nat).contains (mK M s1) = true then F_X3_init_0_p1275 a0  (wA M s1 36 s0) else none)
theorem sF_X3_init_0_p1225 {a0 : Nat} {s0 : Nat} {s1 : Nat} {z1 : Value} {M : ev_M} {Q : Nat → Value → ev_M → Prop} {r : ev_M} (h : F_X3_init_0_p1225 a0 s0 s1 M = some r) (hq : Q 0 jk r) : XP ev_prog [((.putfield 84, 3, [0, 4, 36, 2]), []), ((.aload_n 0, 1, []), []), ((.bipush 10, 2, []), []), ((.newarray .int, 2, [40]), []), ((.putfield 87, 3, [0, 4, 40, 2]), []), ((.aload_n 0, 1, []), []), ((.sipush 144, 3, []), []), ((.newarray .double, 2, [43]), []), ((.putfield 90, 3, [0, 4, 41, 2]), []), ((.aload_n 0, 1, []), []), ((.sipush 144, 3, []), []), ((.newarray .double, 2, [43]), []), ((.putfield 93, 3, [0, 4, 42, 2]), []), ((.aload_n 0, 1, []), []), ((.sipush 144, 3, []), []), ((.newarray .int, 2, [40]), []), ((.putfield 96, 3, [0, 4, 43, 2]), []), ((.aload_n 0, 1, []), []), ((.bipush 10, 2, []), []), ((.newarray .int, 2, [40]), []), ((.putfield 99, 3, [0, 4, 44, 2]), []), ((.aload_n 0, 1, []), []), ((.iconst 3, 1, []), []), ((.newarray .int, 2, [40]), []), ((.putfield 102, 3, [0, 4, 45, 2]), []), ((.aload_n 0, 1, []), []), ((.iconst 3, 1, []), []), ((.newarray .int, 2, [40]), []), ((.putfield 105, 3, [0, 4, 46, 2]), []), ((.iconst 0, 1, []), []), ((.istore_n 1, 1, []), []), ((.nop, 0, [0, 172294]), [])] [.ref a0, z1] [.ref s0, .ref s1] M Q := by
  unfold F_X3_init_0_p1225 at h
  obtain ⟨hc, h⟩ := gd h
  refine (x_putf4 hc).mpr ?_
  exact sF_X3_init_0_p1275 h hq
def F_X3_init_0_p1176 (a0 : Nat)  (M : ev_M) : Option ev_M := (if 0 ≤ ((iI (10))).toInt ∧ ((iI (10))).toInt ≤ 100000 then F_X3_init_0_p1225 a0 (nx M) a0 (wN M 40 (ev_ix (iI (10))) (ev_ix (iI (10)))) else none)
theorem sF_X3_init_0_p1176 {a0 : Nat}  {z1 : Value} {M : ev_M} {Q : Nat → Value → ev_M → Prop} {r : ev_M} (h : F_X3_init_0_p1176 a0  M = some r) (hq : Q 0 jk r) : XP ev_prog [((.aload_n 0, 1, []), []), ((.bipush 10, 2, []), []), ((.newarray .int, 2, [40]), []), ((.putfield 84, 3, [0, 4, 36, 2]), []), ((.aload_n 0, 1, []), []), ((.bipush 10, 2, []), []), ((.newarray .int, 2, [40]), []), ((.putfield 87, 3, [0, 4, 40, 2]), []), ((.aload_n 0, 1, []), []), ((.sipush 144, 3, []), []), ((.newarray .double, 2, [43]), []), ((.putfield 90, 3, [0, 4, 41, 2]), []), ((.aload_n 0, 1, []), []), ((.sipush 144, 3, []), []), ((.newarray .double, 2, [43]), []), ((.putfield 93, 3, [0, 4, 42, 2]), []), ((.aload_n 0, 1, []), []), ((.sipush 144, 3, []), []), ((.newarray .int, 2, [40]), []), ((.putfield 96, 3, [0, 4, 43, 2]), []), ((.aload_n 0, 1, []), []), ((.bipush 10, 2, []), []), ((.newarray .int, 2, [40]), []), ((.putfield 99, 3, [0, 4, 44, 2]), []), ((.aload_n 0, 1, []), []), ((.iconst 3, 1, []), []), ((.newarray .int, 2, [40]), []), ((.putfield 102, 3, [0, 4, 45, 2]), []), ((.aload_n 0, 1, []), []), ((.iconst 3, 1, []), []), ((.newarray .int, 2, [40]), []), ((.putfield 105, 3, [0, 4, 46, 2]), []), ((.iconst 0, 1, []), []), ((.istore_n 1, 1, []), []), ((.nop, 0, [0, 172294]), [])] [.ref a0, z1] [] M Q := by
  unfold F_X3_init_0_p1176 at h
  refine x_aloadn0.mpr ?_
  refine (x_bipush (by decide)).mpr ?_
  obtain ⟨hc, h⟩ := gd h
  refine (x_newa hc).mpr ?_
  exact sF_X3_init_0_p1225 h hq
def F_X3_init_0_p1128 (a0 : Nat) (s0 : Nat) (s1 : Nat) (M : ev_M) : Option ev_M := (if ([2] : List Nat).contains (mK M s1) = true then F_X3_init_0_p1176 a0  (wA M s1 35 s0) else none)
theorem sF_X3_init_0_p1128 {a0 : Nat} {s0 : Nat} {s1 : Nat} {z1 : Value} {M : ev_M} {Q : Nat → Value → ev_M → Prop} {r : ev_M} (h : F_X3_init_0_p1128 a0 s0 s1 M = some r) (hq : Q 0 jk r) : XP ev_prog [((.putfield 81, 3, [0, 4, 35, 2]), []), ((.aload_n 0, 1, []), []), ((.bipush 10, 2, []), []), ((.newarray .int, 2, [40]), []), ((.putfield 84, 3, [0, 4, 36, 2]), []), ((.aload_n 0, 1, []), []), ((.bipush 10, 2, []), []), ((.newarray .int, 2, [40]), []), ((.putfield 87, 3, [0, 4, 40, 2]), []), ((.aload_n 0, 1, []), []), ((.sipush 144, 3, []), []), ((.newarray .double, 2, [43]), []), ((.putfield 90, 3, [0, 4, 41, 2]), []), ((.aload_n 0, 1, []), []), ((.sipush 144, 3, []), []), ((.newarray .double, 2, [43]), []), ((.putfield 93, 3, [0, 4, 42, 2]), []), ((.aload_n 0, 1, []), []), ((.sipush 144, 3, []), []), ((.newarray .int, 2, [40]), []), ((.putfield 96, 3, [0, 4, 43, 2]), []), ((.aload_n 0, 1, []), []), ((.bipush 10, 2, []), []), ((.newarray .int, 2, [40]), []), ((.putfield 99, 3, [0, 4, 44, 2]), []), ((.aload_n 0, 1, []), []), ((.iconst 3, 1, []), []), ((.newarray .int, 2, [40]), []), ((.putfield 102, 3, [0, 4, 45, 2]), []), ((.aload_n 0, 1, []), []), ((.iconst 3, 1, []), []), ((.newarray .int, 2, [40]), []), ((.putfield 105, 3, [0, 4, 46, 2]), []), ((.iconst 0, 1, []), []), ((.istore_n 1, 1, []), []), ((.nop, 0, [0, 172294]), [])] [.ref a0, z1] [.ref s0, .ref s1] M Q := by
  unfold F_X3_init_0_p1128 at h
  obtain ⟨hc, h⟩ := gd h
  refine (x_putf4 hc).mpr ?_
  exact sF_X3_init_0_p1176 h hq
def F_X3_init_0_p1081 (a0 : Nat)  (M : ev_M) : Option ev_M := (if 0 ≤ ((iI (3))).toInt ∧ ((iI (3))).toInt ≤ 100000 then F_X3_init_0_p1128 a0 (nx M) a0 (wN M 40 (ev_ix (iI (3))) (ev_ix (iI (3)))) else none)
theorem sF_X3_init_0_p1081 {a0 : Nat}  {z1 : Value} {M : ev_M} {Q : Nat → Value → ev_M → Prop} {r : ev_M} (h : F_X3_init_0_p1081 a0  M = some r) (hq : Q 0 jk r) : XP ev_prog [((.aload_n 0, 1, []), []), ((.iconst 3, 1, []), []), ((.newarray .int, 2, [40]), []), ((.putfield 81, 3, [0, 4, 35, 2]), []), ((.aload_n 0, 1, []), []), ((.bipush 10, 2, []), []), ((.newarray .int, 2, [40]), []), ((.putfield 84, 3, [0, 4, 36, 2]), []), ((.aload_n 0, 1, []), []), ((.bipush 10, 2, []), []), ((.newarray .int, 2, [40]), []), ((.putfield 87, 3, [0, 4, 40, 2]), []), ((.aload_n 0, 1, []), []), ((.sipush 144, 3, []), []), ((.newarray .double, 2, [43]), []), ((.putfield 90, 3, [0, 4, 41, 2]), []), ((.aload_n 0, 1, []), []), ((.sipush 144, 3, []), []), ((.newarray .double, 2, [43]), []), ((.putfield 93, 3, [0, 4, 42, 2]), []), ((.aload_n 0, 1, []), []), ((.sipush 144, 3, []), []), ((.newarray .int, 2, [40]), []), ((.putfield 96, 3, [0, 4, 43, 2]), []), ((.aload_n 0, 1, []), []), ((.bipush 10, 2, []), []), ((.newarray .int, 2, [40]), []), ((.putfield 99, 3, [0, 4, 44, 2]), []), ((.aload_n 0, 1, []), []), ((.iconst 3, 1, []), []), ((.newarray .int, 2, [40]), []), ((.putfield 102, 3, [0, 4, 45, 2]), []), ((.aload_n 0, 1, []), []), ((.iconst 3, 1, []), []), ((.newarray .int, 2, [40]), []), ((.putfield 105, 3, [0, 4, 46, 2]), []), ((.iconst 0, 1, []), []), ((.istore_n 1, 1, []), []), ((.nop, 0, [0, 172294]), [])] [.ref a0, z1] [] M Q := by
  unfold F_X3_init_0_p1081 at h
  refine x_aloadn0.mpr ?_
  refine x_iconst.mpr ?_
  obtain ⟨hc, h⟩ := gd h
  refine (x_newa hc).mpr ?_
  exact sF_X3_init_0_p1128 h hq
def F_X3_init_0_p1035 (a0 : Nat) (s0 : Nat) (s1 : Nat) (M : ev_M) : Option ev_M := (if ([2] : List Nat).contains (mK M s1) = true then F_X3_init_0_p1081 a0  (wA M s1 32 s0) else none)
theorem sF_X3_init_0_p1035 {a0 : Nat} {s0 : Nat} {s1 : Nat} {z1 : Value} {M : ev_M} {Q : Nat → Value → ev_M → Prop} {r : ev_M} (h : F_X3_init_0_p1035 a0 s0 s1 M = some r) (hq : Q 0 jk r) : XP ev_prog [((.putfield 77, 3, [0, 4, 32, 2]), []), ((.aload_n 0, 1, []), []), ((.iconst 3, 1, []), []), ((.newarray .int, 2, [40]), []), ((.putfield 81, 3, [0, 4, 35, 2]), []), ((.aload_n 0, 1, []), []), ((.bipush 10, 2, []), []), ((.newarray .int, 2, [40]), []), ((.putfield 84, 3, [0, 4, 36, 2]), []), ((.aload_n 0, 1, []), []), ((.bipush 10, 2, []), []), ((.newarray .int, 2, [40]), []), ((.putfield 87, 3, [0, 4, 40, 2]), []), ((.aload_n 0, 1, []), []), ((.sipush 144, 3, []), []), ((.newarray .double, 2, [43]), []), ((.putfield 90, 3, [0, 4, 41, 2]), []), ((.aload_n 0, 1, []), []), ((.sipush 144, 3, []), []), ((.newarray .double, 2, [43]), []), ((.putfield 93, 3, [0, 4, 42, 2]), []), ((.aload_n 0, 1, []), []), ((.sipush 144, 3, []), []), ((.newarray .int, 2, [40]), []), ((.putfield 96, 3, [0, 4, 43, 2]), []), ((.aload_n 0, 1, []), []), ((.bipush 10, 2, []), []), ((.newarray .int, 2, [40]), []), ((.putfield 99, 3, [0, 4, 44, 2]), []), ((.aload_n 0, 1, []), []), ((.iconst 3, 1, []), []), ((.newarray .int, 2, [40]), []), ((.putfield 102, 3, [0, 4, 45, 2]), []), ((.aload_n 0, 1, []), []), ((.iconst 3, 1, []), []), ((.newarray .int, 2, [40]), []), ((.putfield 105, 3, [0, 4, 46, 2]), []), ((.iconst 0, 1, []), []), ((.istore_n 1, 1, []), []), ((.nop, 0, [0, 172294]), [])] [.ref a0, z1] [.ref s0, .ref s1] M Q := by
  unfold F_X3_init_0_p1035 at h
  obtain ⟨hc, h⟩ := gd h
  refine (x_putf4 hc).mpr ?_
  exact sF_X3_init_0_p1081 h hq
def F_X3_init_0_p990 (a0 : Nat)  (M : ev_M) : Option ev_M := (if 0 ≤ ((iI (1440))).toInt ∧ ((iI (1440))).toInt ≤ 100000 then F_X3_init_0_p1035 a0 (nx M) a0 (wN M 44 (ev_ix (iI (1440))) (ev_ix (iI (1440)))) else none)
theorem sF_X3_init_0_p990 {a0 : Nat}  {z1 : Value} {M : ev_M} {Q : Nat → Value → ev_M → Prop} {r : ev_M} (h : F_X3_init_0_p990 a0  M = some r) (hq : Q 0 jk r) : XP ev_prog [((.aload_n 0, 1, []), []), ((.sipush 1440, 3, []), []), ((.newarray .boolean, 2, [44]), []), ((.putfield 77, 3, [0, 4, 32, 2]), []), ((.aload_n 0, 1, []), []), ((.iconst 3, 1, []), []), ((.newarray .int, 2, [40]), []), ((.putfield 81, 3, [0, 4, 35, 2]), []), ((.aload_n 0, 1, []), []), ((.bipush 10, 2, []), []), ((.newarray .int, 2, [40]), []), ((.putfield 84, 3, [0, 4, 36, 2]), []), ((.aload_n 0, 1, []), []), ((.bipush 10, 2, []), []), ((.newarray .int, 2, [40]), []), ((.putfield 87, 3, [0, 4, 40, 2]), []), ((.aload_n 0, 1, []), []), ((.sipush 144, 3, []), []), ((.newarray .double, 2, [43]), []), ((.putfield 90, 3, [0, 4, 41, 2]), []), ((.aload_n 0, 1, []), []), ((.sipush 144, 3, []), []), ((.newarray .double, 2, [43]), []), ((.putfield 93, 3, [0, 4, 42, 2]), []), ((.aload_n 0, 1, []), []), ((.sipush 144, 3, []), []), ((.newarray .int, 2, [40]), []), ((.putfield 96, 3, [0, 4, 43, 2]), []), ((.aload_n 0, 1, []), []), ((.bipush 10, 2, []), []), ((.newarray .int, 2, [40]), []), ((.putfield 99, 3, [0, 4, 44, 2]), []), ((.aload_n 0, 1, []), []), ((.iconst 3, 1, []), []), ((.newarray .int, 2, [40]), []), ((.putfield 102, 3, [0, 4, 45, 2]), []), ((.aload_n 0, 1, []), []), ((.iconst 3, 1, []), []), ((.newarray .int, 2, [40]), []), ((.putfield 105, 3, [0, 4, 46, 2]), []), ((.iconst 0, 1, []), []), ((.istore_n 1, 1, []), []), ((.nop, 0, [0, 172294]), [])] [.ref a0, z1] [] M Q := by
  unfold F_X3_init_0_p990 at h
  refine x_aloadn0.mpr ?_
  refine (x_sipush (by decide)).mpr ?_
  obtain ⟨hc, h⟩ := gd h
  refine (x_newa hc).mpr ?_
  exact sF_X3_init_0_p1035 h hq
def F_X3_init_0_p946 (a0 : Nat) (s0 : Nat) (s1 : Nat) (M : ev_M) : Option ev_M := (if ([2] : List Nat).contains (mK M s1) = true then F_X3_init_0_p990 a0  (wA M s1 31 s0) else none)
theorem sF_X3_init_0_p946 {a0 : Nat} {s0 : Nat} {s1 : Nat} {z1 : Value} {M : ev_M} {Q : Nat → Value → ev_M → Prop} {r : ev_M} (h : F_X3_init_0_p946 a0 s0 s1 M = some r) (hq : Q 0 jk r) : XP ev_prog [((.putfield 74, 3, [0, 4, 31, 2]), []), ((.aload_n 0, 1, []), []), ((.sipush 1440, 3, []), []), ((.newarray .boolean, 2, [44]), []), ((.putfield 77, 3, [0, 4, 32, 2]), []), ((.aload_n 0, 1, []), []), ((.iconst 3, 1, []), []), ((.newarray .int, 2, [40]), []), ((.putfield 81, 3, [0, 4, 35, 2]), []), ((.aload_n 0, 1, []), []), ((.bipush 10, 2, []), []), ((.newarray .int, 2, [40]), []), ((.putfield 84, 3, [0, 4, 36, 2]), []), ((.aload_n 0, 1, []), []), ((.bipush 10, 2, []), []), ((.newarray .int, 2, [40]), []), ((.putfield 87, 3, [0, 4, 40, 2]), []), ((.aload_n 0, 1, []), []), ((.sipush 144, 3, []), []), ((.newarray .double, 2, [43]), []), ((.putfield 90, 3, [0, 4, 41, 2]), []), ((.aload_n 0, 1, []), []), ((.sipush 144, 3, []), []), ((.newarray .double, 2, [43]), []), ((.putfield 93, 3, [0, 4, 42, 2]), []), ((.aload_n 0, 1, []), []), ((.sipush 144, 3, []), []), ((.newarray .int, 2, [40]), []), ((.putfield 96, 3, [0, 4, 43, 2]), []), ((.aload_n 0, 1, []), []), ((.bipush 10, 2, []), []), ((.newarray .int, 2, [40]), []), ((.putfield 99, 3, [0, 4, 44, 2]), []), ((.aload_n 0, 1, []), []), ((.iconst 3, 1, []), []), ((.newarray .int, 2, [40]), []), ((.putfield 102, 3, [0, 4, 45, 2]), []), ((.aload_n 0, 1, []), []), ((.iconst 3, 1, []), []), ((.newarray .int, 2, [40]), []), ((.putfield 105, 3, [0, 4, 46, 2]), []), ((.iconst 0, 1, []), []), ((.istore_n 1, 1, []), []), ((.nop, 0, [0, 172294]), [])] [.ref a0, z1] [.ref s0, .ref s1] M Q := by
  unfold F_X3_init_0_p946 at h
  obtain ⟨hc, h⟩ := gd h
  refine (x_putf4 hc).mpr ?_
  exact sF_X3_init_0_p990 h hq
def F_X3_init_0_p903 (a0 : Nat)  (M : ev_M) : Option ev_M := (if 0 ≤ ((iI (1440))).toInt ∧ ((iI (1440))).toInt ≤ 100000 then F_X3_init_0_p946 a0 (nx M) a0 (wN M 43 (ev_ix (iI (1440))) (ev_ix (iI (1440)))) else none)
theorem sF_X3_init_0_p903 {a0 : Nat}  {z1 : Value} {M : ev_M} {Q : Nat → Value → ev_M → Prop} {r : ev_M} (h : F_X3_init_0_p903 a0  M = some r) (hq : Q 0 jk r) : XP ev_prog [((.aload_n 0, 1, []), []), ((.sipush 1440, 3, []), []), ((.newarray .double, 2, [43]), []), ((.putfield 74, 3, [0, 4, 31, 2]), []), ((.aload_n 0, 1, []), []), ((.sipush 1440, 3, []), []), ((.newarray .boolean, 2, [44]), []), ((.putfield 77, 3, [0, 4, 32, 2]), []), ((.aload_n 0, 1, []), []), ((.iconst 3, 1, []), []), ((.newarray .int, 2, [40]), []), ((.putfield 81, 3, [0, 4, 35, 2]), []), ((.aload_n 0, 1, []), []), ((.bipush 10, 2, []), []), ((.newarray .int, 2, [40]), []), ((.putfield 84, 3, [0, 4, 36, 2]), []), ((.aload_n 0, 1, []), []), ((.bipush 10, 2, []), []), ((.newarray .int, 2, [40]), []), ((.putfield 87, 3, [0, 4, 40, 2]), []), ((.aload_n 0, 1, []), []), ((.sipush 144, 3, []), []), ((.newarray .double, 2, [43]), []), ((.putfield 90, 3, [0, 4, 41, 2]), []), ((.aload_n 0, 1, []), []), ((.sipush 144, 3, []), []), ((.newarray .double, 2, [43]), []), ((.putfield 93, 3, [0, 4, 42, 2]), []), ((.aload_n 0, 1, []), []), ((.sipush 144, 3, []), []), ((.newarray .int, 2, [40]), []), ((.putfield 96, 3, [0, 4, 43, 2]), []), ((.aload_n 0, 1, []), []), ((.bipush 10, 2, []), []), ((.newarray .int, 2, [40]), []), ((.putfield 99, 3, [0, 4, 44, 2]), []), ((.aload_n 0, 1, []), []), ((.iconst 3, 1, []), []), ((.newarray .int, 2, [40]), []), ((.putfield 102, 3, [0, 4, 45, 2]), []), ((.aload_n 0, 1, []), []), ((.iconst 3, 1, []), []), ((.newarray .int, 2, [40]), []), ((.putfield 105, 3, [0, 4, 46, 2]), []), ((.iconst 0, 1, []), []), ((.istore_n 1, 1, []), []), ((.nop, 0, [0, 172294]), [])] [.ref a0, z1] [] M Q := by
  unfold F_X3_init_0_p903 at h
  refine x_aloadn0.mpr ?_
  refine (x_sipush (by decide)).mpr ?_
  obtain ⟨hc, h⟩ := gd h
  refine (x_newa hc).mpr ?_
  exact sF_X3_init_0_p946 h hq
def F_X3_init_0_p861 (a0 : Nat) (s0 : Nat) (s1 : Nat) (M : ev_M) : Option ev_M := (if ([2] : List Nat).contains (mK M s1) = true then F_X3_init_0_p903 a0  (wA M s1 30 s0) else none)
theorem sF_X3_init_0_p861 {a0 : Nat} {s0 : Nat} {s1 : Nat} {z1 : Value} {M : ev_M} {Q : Nat → Value → ev_M → Prop} {r : ev_M} (h : F_X3_init_0_p861 a0 s0 s1 M = some r) (hq : Q 0 jk r) : XP ev_prog [((.putfield 71, 3, [0, 4, 30, 2]), []), ((.aload_n 0, 1, []), []), ((.sipush 1440, 3, []), []), ((.newarray .double, 2, [43]), []), ((.putfield 74, 3, [0, 4, 31, 2]), []), ((.aload_n 0, 1, []), []), ((.sipush 1440, 3, []), []), ((.newarray .boolean, 2, [44]), []), ((.putfield 77, 3, [0, 4, 32, 2]), []), ((.aload_n 0, 1, []), []), ((.iconst 3, 1, []), []), ((.newarray .int, 2, [40]), []), ((.putfield 81, 3, [0, 4, 35, 2]), []), ((.aload_n 0, 1, []), []), ((.bipush 10, 2, []), []), ((.newarray .int, 2, [40]), []), ((.putfield 84, 3, [0, 4, 36, 2]), []), ((.aload_n 0, 1, []), []), ((.bipush 10, 2, []), []), ((.newarray .int, 2, [40]), []), ((.putfield 87, 3, [0, 4, 40, 2]), []), ((.aload_n 0, 1, []), []), ((.sipush 144, 3, []), []), ((.newarray .double, 2, [43]), []), ((.putfield 90, 3, [0, 4, 41, 2]), []), ((.aload_n 0, 1, []), []), ((.sipush 144, 3, []), []), ((.newarray .double, 2, [43]), []), ((.putfield 93, 3, [0, 4, 42, 2]), []), ((.aload_n 0, 1, []), []), ((.sipush 144, 3, []), []), ((.newarray .int, 2, [40]), []), ((.putfield 96, 3, [0, 4, 43, 2]), []), ((.aload_n 0, 1, []), []), ((.bipush 10, 2, []), []), ((.newarray .int, 2, [40]), []), ((.putfield 99, 3, [0, 4, 44, 2]), []), ((.aload_n 0, 1, []), []), ((.iconst 3, 1, []), []), ((.newarray .int, 2, [40]), []), ((.putfield 102, 3, [0, 4, 45, 2]), []), ((.aload_n 0, 1, []), []), ((.iconst 3, 1, []), []), ((.newarray .int, 2, [40]), []), ((.putfield 105, 3, [0, 4, 46, 2]), []), ((.iconst 0, 1, []), []), ((.istore_n 1, 1, []), []), ((.nop, 0, [0, 172294]), [])] [.ref a0, z1] [.ref s0, .ref s1] M Q := by
  unfold F_X3_init_0_p861 at h
  obtain ⟨hc, h⟩ := gd h
  refine (x_putf4 hc).mpr ?_
  exact sF_X3_init_0_p903 h hq
def F_X3_init_0_p820 (a0 : Nat)  (M : ev_M) : Option ev_M := (if 0 ≤ ((iI (144))).toInt ∧ ((iI (144))).toInt ≤ 100000 then F_X3_init_0_p861 a0 (nx M) a0 (wN M 43 (ev_ix (iI (144))) (ev_ix (iI (144)))) else none)
theorem sF_X3_init_0_p820 {a0 : Nat}  {z1 : Value} {M : ev_M} {Q : Nat → Value → ev_M → Prop} {r : ev_M} (h : F_X3_init_0_p820 a0  M = some r) (hq : Q 0 jk r) : XP ev_prog [((.aload_n 0, 1, []), []), ((.sipush 144, 3, []), []), ((.newarray .double, 2, [43]), []), ((.putfield 71, 3, [0, 4, 30, 2]), []), ((.aload_n 0, 1, []), []), ((.sipush 1440, 3, []), []), ((.newarray .double, 2, [43]), []), ((.putfield 74, 3, [0, 4, 31, 2]), []), ((.aload_n 0, 1, []), []), ((.sipush 1440, 3, []), []), ((.newarray .boolean, 2, [44]), []), ((.putfield 77, 3, [0, 4, 32, 2]), []), ((.aload_n 0, 1, []), []), ((.iconst 3, 1, []), []), ((.newarray .int, 2, [40]), []), ((.putfield 81, 3, [0, 4, 35, 2]), []), ((.aload_n 0, 1, []), []), ((.bipush 10, 2, []), []), ((.newarray .int, 2, [40]), []), ((.putfield 84, 3, [0, 4, 36, 2]), []), ((.aload_n 0, 1, []), []), ((.bipush 10, 2, []), []), ((.newarray .int, 2, [40]), []), ((.putfield 87, 3, [0, 4, 40, 2]), []), ((.aload_n 0, 1, []), []), ((.sipush 144, 3, []), []), ((.newarray .double, 2, [43]), []), ((.putfield 90, 3, [0, 4, 41, 2]), []), ((.aload_n 0, 1, []), []), ((.sipush 144, 3, []), []), ((.newarray .double, 2, [43]), []), ((.putfield 93, 3, [0, 4, 42, 2]), []), ((.aload_n 0, 1, []), []), ((.sipush 144, 3, []), []), ((.newarray .int, 2, [40]), []), ((.putfield 96, 3, [0, 4, 43, 2]), []), ((.aload_n 0, 1, []), []), ((.bipush 10, 2, []), []), ((.newarray .int, 2, [40]), []), ((.putfield 99, 3, [0, 4, 44, 2]), []), ((.aload_n 0, 1, []), []), ((.iconst 3, 1, []), []), ((.newarray .int, 2, [40]), []), ((.putfield 102, 3, [0, 4, 45, 2]), []), ((.aload_n 0, 1, []), []), ((.iconst 3, 1, []), []), ((.newarray .int, 2, [40]), []), ((.putfield 105, 3, [0, 4, 46, 2]), []), ((.iconst 0, 1, []), []), ((.istore_n 1, 1, []), []), ((.nop, 0, [0, 172294]), [])] [.ref a0, z1] [] M Q := by
  unfold F_X3_init_0_p820 at h
  refine x_aloadn0.mpr ?_
  refine (x_sipush (by decide)).mpr ?_
  obtain ⟨hc, h⟩ := gd h
  refine (x_newa hc).mpr ?_
  exact sF_X3_init_0_p861 h hq
def F_X3_init_0_p780 (a0 : Nat) (s0 : Nat) (s1 : Nat) (M : ev_M) : Option ev_M := (if ([2] : List Nat).contains (mK M s1) = true then F_X3_init_0_p820 a0  (wA M s1 29 s0) else none)
theorem sF_X3_init_0_p780 {a0 : Nat} {s0 : Nat} {s1 : Nat} {z1 : Value} {M : ev_M} {Q : Nat → Value → ev_M → Prop} {r : ev_M} (h : F_X3_init_0_p780 a0 s0 s1 M = some r) (hq : Q 0 jk r) : XP ev_prog [((.putfield 68, 3, [0, 4, 29, 2]), []), ((.aload_n 0, 1, []), []), ((.sipush 144, 3, []), []), ((.newarray .double, 2, [43]), []), ((.putfield 71, 3, [0, 4, 30, 2]), []), ((.aload_n 0, 1, []), []), ((.sipush 1440, 3, []), []), ((.newarray .double, 2, [43]), []), ((.putfield 74, 3, [0, 4, 31, 2]), []), ((.aload_n 0, 1, []), []), ((.sipush 1440, 3, []), []), ((.newarray .boolean, 2, [44]), []), ((.putfield 77, 3, [0, 4, 32, 2]), []), ((.aload_n 0, 1, []), []), ((.iconst 3, 1, []), []), ((.newarray .int, 2, [40]), []), ((.putfield 81, 3, [0, 4, 35, 2]), []), ((.aload_n 0, 1, []), []), ((.bipush 10, 2, []), []), ((.newarray .int, 2, [40]), []), ((.putfield 84, 3, [0, 4, 36, 2]), []), ((.aload_n 0, 1, []), []), ((.bipush 10, 2, []), []), ((.newarray .int, 2, [40]), []), ((.putfield 87, 3, [0, 4, 40, 2]), []), ((.aload_n 0, 1, []), []), ((.sipush 144, 3, []), []), ((.newarray .double, 2, [43]), []), ((.putfield 90, 3, [0, 4, 41, 2]), []), ((.aload_n 0, 1, []), []), ((.sipush 144, 3, []), []), ((.newarray .double, 2, [43]), []), ((.putfield 93, 3, [0, 4, 42, 2]), []), ((.aload_n 0, 1, []), []), ((.sipush 144, 3, []), []), ((.newarray .int, 2, [40]), []), ((.putfield 96, 3, [0, 4, 43, 2]), []), ((.aload_n 0, 1, []), []), ((.bipush 10, 2, []), []), ((.newarray .int, 2, [40]), []), ((.putfield 99, 3, [0, 4, 44, 2]), []), ((.aload_n 0, 1, []), []), ((.iconst 3, 1, []), []), ((.newarray .int, 2, [40]), []), ((.putfield 102, 3, [0, 4, 45, 2]), []), ((.aload_n 0, 1, []), []), ((.iconst 3, 1, []), []), ((.newarray .int, 2, [40]), []), ((.putfield 105, 3, [0, 4, 46, 2]), []), ((.iconst 0, 1, []), []), ((.istore_n 1, 1, []), []), ((.nop, 0, [0, 172294]), [])] [.ref a0, z1] [.ref s0, .ref s1] M Q := by
  unfold F_X3_init_0_p780 at h
  obtain ⟨hc, h⟩ := gd h
  refine (x_putf4 hc).mpr ?_
  exact sF_X3_init_0_p820 h hq
def F_X3_init_0_p741 (a0 : Nat)  (M : ev_M) : Option ev_M := (if 0 ≤ ((iI (6))).toInt ∧ ((iI (6))).toInt ≤ 100000 then F_X3_init_0_p780 a0 (nx M) a0 (wN M 40 (ev_ix (iI (6))) (ev_ix (iI (6)))) else none)
theorem sF_X3_init_0_p741 {a0 : Nat}  {z1 : Value} {M : ev_M} {Q : Nat → Value → ev_M → Prop} {r : ev_M} (h : F_X3_init_0_p741 a0  M = some r) (hq : Q 0 jk r) : XP ev_prog [((.aload_n 0, 1, []), []), ((.bipush 6, 2, []), []), ((.newarray .int, 2, [40]), []), ((.putfield 68, 3, [0, 4, 29, 2]), []), ((.aload_n 0, 1, []), []), ((.sipush 144, 3, []), []), ((.newarray .double, 2, [43]), []), ((.putfield 71, 3, [0, 4, 30, 2]), []), ((.aload_n 0, 1, []), []), ((.sipush 1440, 3, []), []), ((.newarray .double, 2, [43]), []), ((.putfield 74, 3, [0, 4, 31, 2]), []), ((.aload_n 0, 1, []), []), ((.sipush 1440, 3, []), []), ((.newarray .boolean, 2, [44]), []), ((.putfield 77, 3, [0, 4, 32, 2]), []), ((.aload_n 0, 1, []), []), ((.iconst 3, 1, []), []), ((.newarray .int, 2, [40]), []), ((.putfield 81, 3, [0, 4, 35, 2]), []), ((.aload_n 0, 1, []), []), ((.bipush 10, 2, []), []), ((.newarray .int, 2, [40]), []), ((.putfield 84, 3, [0, 4, 36, 2]), []), ((.aload_n 0, 1, []), []), ((.bipush 10, 2, []), []), ((.newarray .int, 2, [40]), []), ((.putfield 87, 3, [0, 4, 40, 2]), []), ((.aload_n 0, 1, []), []), ((.sipush 144, 3, []), []), ((.newarray .double, 2, [43]), []), ((.putfield 90, 3, [0, 4, 41, 2]), []), ((.aload_n 0, 1, []), []), ((.sipush 144, 3, []), []), ((.newarray .double, 2, [43]), []), ((.putfield 93, 3, [0, 4, 42, 2]), []), ((.aload_n 0, 1, []), []), ((.sipush 144, 3, []), []), ((.newarray .int, 2, [40]), []), ((.putfield 96, 3, [0, 4, 43, 2]), []), ((.aload_n 0, 1, []), []), ((.bipush 10, 2, []), []), ((.newarray .int, 2, [40]), []), ((.putfield 99, 3, [0, 4, 44, 2]), []), ((.aload_n 0, 1, []), []), ((.iconst 3, 1, []), []), ((.newarray .int, 2, [40]), []), ((.putfield 102, 3, [0, 4, 45, 2]), []), ((.aload_n 0, 1, []), []), ((.iconst 3, 1, []), []), ((.newarray .int, 2, [40]), []), ((.putfield 105, 3, [0, 4, 46, 2]), []), ((.iconst 0, 1, []), []), ((.istore_n 1, 1, []), []), ((.nop, 0, [0, 172294]), [])] [.ref a0, z1] [] M Q := by
  unfold F_X3_init_0_p741 at h
  refine x_aloadn0.mpr ?_
  refine (x_bipush (by decide)).mpr ?_
  obtain ⟨hc, h⟩ := gd h
  refine (x_newa hc).mpr ?_
  exact sF_X3_init_0_p780 h hq
def F_X3_init_0_p703 (a0 : Nat) (s0 : Nat) (s1 : Nat) (M : ev_M) : Option ev_M := (if ([2] : List Nat).contains (mK M s1) = true then F_X3_init_0_p741 a0  (wA M s1 24 s0) else none)
theorem sF_X3_init_0_p703 {a0 : Nat} {s0 : Nat} {s1 : Nat} {z1 : Value} {M : ev_M} {Q : Nat → Value → ev_M → Prop} {r : ev_M} (h : F_X3_init_0_p703 a0 s0 s1 M = some r) (hq : Q 0 jk r) : XP ev_prog [((.putfield 65, 3, [0, 4, 24, 2]), []), ((.aload_n 0, 1, []), []), ((.bipush 6, 2, []), []), ((.newarray .int, 2, [40]), []), ((.putfield 68, 3, [0, 4, 29, 2]), []), ((.aload_n 0, 1, []), []), ((.sipush 144, 3, []), []), ((.newarray .double, 2, [43]), []), ((.putfield 71, 3, [0, 4, 30, 2]), []), ((.aload_n 0, 1, []), []), ((.sipush 1440, 3, []), []), ((.newarray .double, 2, [43]), []), ((.putfield 74, 3, [0, 4, 31, 2]), []), ((.aload_n 0, 1, []), []), ((.sipush 1440, 3, []), []), ((.newarray .boolean, 2, [44]), []), ((.putfield 77, 3, [0, 4, 32, 2]), []), ((.aload_n 0, 1, []), []), ((.iconst 3, 1, []), []), ((.newarray .int, 2, [40]), []), ((.putfield 81, 3, [0, 4, 35, 2]), []), ((.aload_n 0, 1, []), []), ((.bipush 10, 2, []), []), ((.newarray .int, 2, [40]), []), ((.putfield 84, 3, [0, 4, 36, 2]), []), ((.aload_n 0, 1, []), []), ((.bipush 10, 2, []), []), ((.newarray .int, 2, [40]), []), ((.putfield 87, 3, [0, 4, 40, 2]), []), ((.aload_n 0, 1, []), []), ((.sipush 144, 3, []), []), ((.newarray .double, 2, [43]), []), ((.putfield 90, 3, [0, 4, 41, 2]), []), ((.aload_n 0, 1, []), []), ((.sipush 144, 3, []), []), ((.newarray .double, 2, [43]), []), ((.putfield 93, 3, [0, 4, 42, 2]), []), ((.aload_n 0, 1, []), []), ((.sipush 144, 3, []), []), ((.newarray .int, 2, [40]), []), ((.putfield 96, 3, [0, 4, 43, 2]), []), ((.aload_n 0, 1, []), []), ((.bipush 10, 2, []), []), ((.newarray .int, 2, [40]), []), ((.putfield 99, 3, [0, 4, 44, 2]), []), ((.aload_n 0, 1, []), []), ((.iconst 3, 1, []), []), ((.newarray .int, 2, [40]), []), ((.putfield 102, 3, [0, 4, 45, 2]), []), ((.aload_n 0, 1, []), []), ((.iconst 3, 1, []), []), ((.newarray .int, 2, [40]), []), ((.putfield 105, 3, [0, 4, 46, 2]), []), ((.iconst 0, 1, []), []), ((.istore_n 1, 1, []), []), ((.nop, 0, [0, 172294]), [])] [.ref a0, z1] [.ref s0, .ref s1] M Q := by
  unfold F_X3_init_0_p703 at h
  obtain ⟨hc, h⟩ := gd h
  refine (x_putf4 hc).mpr ?_
  exact sF_X3_init_0_p741 h hq
def F_X3_init_0_p666 (a0 : Nat)  (M : ev_M) : Option ev_M := (if 0 ≤ ((iI (6))).toInt ∧ ((iI (6))).toInt ≤ 100000 then F_X3_init_0_p703 a0 (nx M) a0 (wN M 40 (ev_ix (iI (6))) (ev_ix (iI (6)))) else none)
theorem sF_X3_init_0_p666 {a0 : Nat}  {z1 : Value} {M : ev_M} {Q : Nat → Value → ev_M → Prop} {r : ev_M} (h : F_X3_init_0_p666 a0  M = some r) (hq : Q 0 jk r) : XP ev_prog [((.aload_n 0, 1, []), []), ((.bipush 6, 2, []), []), ((.newarray .int, 2, [40]), []), ((.putfield 65, 3, [0, 4, 24, 2]), []), ((.aload_n 0, 1, []), []), ((.bipush 6, 2, []), []), ((.newarray .int, 2, [40]), []), ((.putfield 68, 3, [0, 4, 29, 2]), []), ((.aload_n 0, 1, []), []), ((.sipush 144, 3, []), []), ((.newarray .double, 2, [43]), []), ((.putfield 71, 3, [0, 4, 30, 2]), []), ((.aload_n 0, 1, []), []), ((.sipush 1440, 3, []), []), ((.newarray .double, 2, [43]), []), ((.putfield 74, 3, [0, 4, 31, 2]), []), ((.aload_n 0, 1, []), []), ((.sipush 1440, 3, []), []), ((.newarray .boolean, 2, [44]), []), ((.putfield 77, 3, [0, 4, 32, 2]), []), ((.aload_n 0, 1, []), []), ((.iconst 3, 1, []), []), ((.newarray .int, 2, [40]), []), ((.putfield 81, 3, [0, 4, 35, 2]), []), ((.aload_n 0, 1, []), []), ((.bipush 10, 2, []), []), ((.newarray .int, 2, [40]), []), ((.putfield 84, 3, [0, 4, 36, 2]), []), ((.aload_n 0, 1, []), []), ((.bipush 10, 2, []), []), ((.newarray .int, 2, [40]), []), ((.putfield 87, 3, [0, 4, 40, 2]), []), ((.aload_n 0, 1, []), []), ((.sipush 144, 3, []), []), ((.newarray .double, 2, [43]), []), ((.putfield 90, 3, [0, 4, 41, 2]), []), ((.aload_n 0, 1, []), []), ((.sipush 144, 3, []), []), ((.newarray .double, 2, [43]), []), ((.putfield 93, 3, [0, 4, 42, 2]), []), ((.aload_n 0, 1, []), []), ((.sipush 144, 3, []), []), ((.newarray .int, 2, [40]), []), ((.putfield 96, 3, [0, 4, 43, 2]), []), ((.aload_n 0, 1, []), []), ((.bipush 10, 2, []), []), ((.newarray .int, 2, [40]), []), ((.putfield 99, 3, [0, 4, 44, 2]), []), ((.aload_n 0, 1, []), []), ((.iconst 3, 1, []), []), ((.newarray .int, 2, [40]), []), ((.putfield 102, 3, [0, 4, 45, 2]), []), ((.aload_n 0, 1, []), []), ((.iconst 3, 1, []), []), ((.newarray .int, 2, [40]), []), ((.putfield 105, 3, [0, 4, 46, 2]), []), ((.iconst 0, 1, []), []), ((.istore_n 1, 1, []), []), ((.nop, 0, [0, 172294]), [])] [.ref a0, z1] [] M Q := by
  unfold F_X3_init_0_p666 at h
  refine x_aloadn0.mpr ?_
  refine (x_bipush (by decide)).mpr ?_
  obtain ⟨hc, h⟩ := gd h
  refine (x_newa hc).mpr ?_
  exact sF_X3_init_0_p703 h hq
def F_X3_init_0_p630 (a0 : Nat) (s0 : Nat) (s1 : Nat) (M : ev_M) : Option ev_M := (if ([2] : List Nat).contains (mK M s1) = true then F_X3_init_0_p666 a0  (wA M s1 23 s0) else none)
theorem sF_X3_init_0_p630 {a0 : Nat} {s0 : Nat} {s1 : Nat} {z1 : Value} {M : ev_M} {Q : Nat → Value → ev_M → Prop} {r : ev_M} (h : F_X3_init_0_p630 a0 s0 s1 M = some r) (hq : Q 0 jk r) : XP ev_prog [((.putfield 62, 3, [0, 4, 23, 2]), []), ((.aload_n 0, 1, []), []), ((.bipush 6, 2, []), []), ((.newarray .int, 2, [40]), []), ((.putfield 65, 3, [0, 4, 24, 2]), []), ((.aload_n 0, 1, []), []), ((.bipush 6, 2, []), []), ((.newarray .int, 2, [40]), []), ((.putfield 68, 3, [0, 4, 29, 2]), []), ((.aload_n 0, 1, []), []), ((.sipush 144, 3, []), []), ((.newarray .double, 2, [43]), []), ((.putfield 71, 3, [0, 4, 30, 2]), []), ((.aload_n 0, 1, []), []), ((.sipush 1440, 3, []), []), ((.newarray .double, 2, [43]), []), ((.putfield 74, 3, [0, 4, 31, 2]), []), ((.aload_n 0, 1, []), []), ((.sipush 1440, 3, []), []), ((.newarray .boolean, 2, [44]), []), ((.putfield 77, 3, [0, 4, 32, 2]), []), ((.aload_n 0, 1, []), []), ((.iconst 3, 1, []), []), ((.newarray .int, 2, [40]), []), ((.putfield 81, 3, [0, 4, 35, 2]), []), ((.aload_n 0, 1, []), []), ((.bipush 10, 2, []), []), ((.newarray .int, 2, [40]), []), ((.putfield 84, 3, [0, 4, 36, 2]), []), ((.aload_n 0, 1, []), []), ((.bipush 10, 2, []), []), ((.newarray .int, 2, [40]), []), ((.putfield 87, 3, [0, 4, 40, 2]), []), ((.aload_n 0, 1, []), []), ((.sipush 144, 3, []), []), ((.newarray .double, 2, [43]), []), ((.putfield 90, 3, [0, 4, 41, 2]), []), ((.aload_n 0, 1, []), []), ((.sipush 144, 3, []), []), ((.newarray .double, 2, [43]), []), ((.putfield 93, 3, [0, 4, 42, 2]), []), ((.aload_n 0, 1, []), []), ((.sipush 144, 3, []), []), ((.newarray .int, 2, [40]), []), ((.putfield 96, 3, [0, 4, 43, 2]), []), ((.aload_n 0, 1, []), []), ((.bipush 10, 2, []), []), ((.newarray .int, 2, [40]), []), ((.putfield 99, 3, [0, 4, 44, 2]), []), ((.aload_n 0, 1, []), []), ((.iconst 3, 1, []), []), ((.newarray .int, 2, [40]), []), ((.putfield 102, 3, [0, 4, 45, 2]), []), ((.aload_n 0, 1, []), []), ((.iconst 3, 1, []), []), ((.newarray .int, 2, [40]), []), ((.putfield 105, 3, [0, 4, 46, 2]), []), ((.iconst 0, 1, []), []), ((.istore_n 1, 1, []), []), ((.nop, 0, [0, 172294]), [])] [.ref a0, z1] [.ref s0, .ref s1] M Q := by
  unfold F_X3_init_0_p630 at h
  obtain ⟨hc, h⟩ := gd h
  refine (x_putf4 hc).mpr ?_
  exact sF_X3_init_0_p666 h hq
def F_X3_init_0_p595 (a0 : Nat)  (M : ev_M) : Option ev_M := (if 0 ≤ ((iI (240))).toInt ∧ ((iI (240))).toInt ≤ 100000 then F_X3_init_0_p630 a0 (nx M) a0 (wN M 40 (ev_ix (iI (240))) (ev_ix (iI (240)))) else none)
theorem sF_X3_init_0_p595 {a0 : Nat}  {z1 : Value} {M : ev_M} {Q : Nat → Value → ev_M → Prop} {r : ev_M} (h : F_X3_init_0_p595 a0  M = some r) (hq : Q 0 jk r) : XP ev_prog [((.aload_n 0, 1, []), []), ((.sipush 240, 3, []), []), ((.newarray .int, 2, [40]), []), ((.putfield 62, 3, [0, 4, 23, 2]), []), ((.aload_n 0, 1, []), []), ((.bipush 6, 2, []), []), ((.newarray .int, 2, [40]), []), ((.putfield 65, 3, [0, 4, 24, 2]), []), ((.aload_n 0, 1, []), []), ((.bipush 6, 2, []), []), ((.newarray .int, 2, [40]), []), ((.putfield 68, 3, [0, 4, 29, 2]), []), ((.aload_n 0, 1, []), []), ((.sipush 144, 3, []), []), ((.newarray .double, 2, [43]), []), ((.putfield 71, 3, [0, 4, 30, 2]), []), ((.aload_n 0, 1, []), []), ((.sipush 1440, 3, []), []), ((.newarray .double, 2, [43]), []), ((.putfield 74, 3, [0, 4, 31, 2]), []), ((.aload_n 0, 1, []), []), ((.sipush 1440, 3, []), []), ((.newarray .boolean, 2, [44]), []), ((.putfield 77, 3, [0, 4, 32, 2]), []), ((.aload_n 0, 1, []), []), ((.iconst 3, 1, []), []), ((.newarray .int, 2, [40]), []), ((.putfield 81, 3, [0, 4, 35, 2]), []), ((.aload_n 0, 1, []), []), ((.bipush 10, 2, []), []), ((.newarray .int, 2, [40]), []), ((.putfield 84, 3, [0, 4, 36, 2]), []), ((.aload_n 0, 1, []), []), ((.bipush 10, 2, []), []), ((.newarray .int, 2, [40]), []), ((.putfield 87, 3, [0, 4, 40, 2]), []), ((.aload_n 0, 1, []), []), ((.sipush 144, 3, []), []), ((.newarray .double, 2, [43]), []), ((.putfield 90, 3, [0, 4, 41, 2]), []), ((.aload_n 0, 1, []), []), ((.sipush 144, 3, []), []), ((.newarray .double, 2, [43]), []), ((.putfield 93, 3, [0, 4, 42, 2]), []), ((.aload_n 0, 1, []), []), ((.sipush 144, 3, []), []), ((.newarray .int, 2, [40]), []), ((.putfield 96, 3, [0, 4, 43, 2]), []), ((.aload_n 0, 1, []), []), ((.bipush 10, 2, []), []), ((.newarray .int, 2, [40]), []), ((.putfield 99, 3, [0, 4, 44, 2]), []), ((.aload_n 0, 1, []), []), ((.iconst 3, 1, []), []), ((.newarray .int, 2, [40]), []), ((.putfield 102, 3, [0, 4, 45, 2]), []), ((.aload_n 0, 1, []), []), ((.iconst 3, 1, []), []), ((.newarray .int, 2, [40]), []), ((.putfield 105, 3, [0, 4, 46, 2]), []), ((.iconst 0, 1, []), []), ((.istore_n 1, 1, []), []), ((.nop, 0, [0, 172294]), [])] [.ref a0, z1] [] M Q := by
  unfold F_X3_init_0_p595 at h
  refine x_aloadn0.mpr ?_
  refine (x_sipush (by decide)).mpr ?_
  obtain ⟨hc, h⟩ := gd h
  refine (x_newa hc).mpr ?_
  exact sF_X3_init_0_p630 h hq
def F_X3_init_0_p561 (a0 : Nat) (s0 : Nat) (s1 : Nat) (M : ev_M) : Option ev_M := (if ([2] : List Nat).contains (mK M s1) = true then F_X3_init_0_p595 a0  (wA M s1 21 s0) else none)
theorem sF_X3_init_0_p561 {a0 : Nat} {s0 : Nat} {s1 : Nat} {z1 : Value} {M : ev_M} {Q : Nat → Value → ev_M → Prop} {r : ev_M} (h : F_X3_init_0_p561 a0 s0 s1 M = some r) (hq : Q 0 jk r) : XP ev_prog [((.putfield 59, 3, [0, 4, 21, 2]), []), ((.aload_n 0, 1, []), []), ((.sipush 240, 3, []), []), ((.newarray .int, 2, [40]), []), ((.putfield 62, 3, [0, 4, 23, 2]), []), ((.aload_n 0, 1, []), []), ((.bipush 6, 2, []), []), ((.newarray .int, 2, [40]), []), ((.putfield 65, 3, [0, 4, 24, 2]), []), ((.aload_n 0, 1, []), []), ((.bipush 6, 2, []), []), ((.newarray .int, 2, [40]), []), ((.putfield 68, 3, [0, 4, 29, 2]), []), ((.aload_n 0, 1, []), []), ((.sipush 144, 3, []), []), ((.newarray .double, 2, [43]), []), ((.putfield 71, 3, [0, 4, 30, 2]), []), ((.aload_n 0, 1, []), []), ((.sipush 1440, 3, []), []), ((.newarray .double, 2, [43]), []), ((.putfield 74, 3, [0, 4, 31, 2]), []), ((.aload_n 0, 1, []), []), ((.sipush 1440, 3, []), []), ((.newarray .boolean, 2, [44]), []), ((.putfield 77, 3, [0, 4, 32, 2]), []), ((.aload_n 0, 1, []), []), ((.iconst 3, 1, []), []), ((.newarray .int, 2, [40]), []), ((.putfield 81, 3, [0, 4, 35, 2]), []), ((.aload_n 0, 1, []), []), ((.bipush 10, 2, []), []), ((.newarray .int, 2, [40]), []), ((.putfield 84, 3, [0, 4, 36, 2]), []), ((.aload_n 0, 1, []), []), ((.bipush 10, 2, []), []), ((.newarray .int, 2, [40]), []), ((.putfield 87, 3, [0, 4, 40, 2]), []), ((.aload_n 0, 1, []), []), ((.sipush 144, 3, []), []), ((.newarray .double, 2, [43]), []), ((.putfield 90, 3, [0, 4, 41, 2]), []), ((.aload_n 0, 1, []), []), ((.sipush 144, 3, []), []), ((.newarray .double, 2, [43]), []), ((.putfield 93, 3, [0, 4, 42, 2]), []), ((.aload_n 0, 1, []), []), ((.sipush 144, 3, []), []), ((.newarray .int, 2, [40]), []), ((.putfield 96, 3, [0, 4, 43, 2]), []), ((.aload_n 0, 1, []), []), ((.bipush 10, 2, []), []), ((.newarray .int, 2, [40]), []), ((.putfield 99, 3, [0, 4, 44, 2]), []), ((.aload_n 0, 1, []), []), ((.iconst 3, 1, []), []), ((.newarray .int, 2, [40]), []), ((.putfield 102, 3, [0, 4, 45, 2]), []), ((.aload_n 0, 1, []), []), ((.iconst 3, 1, []), []), ((.newarray .int, 2, [40]), []), ((.putfield 105, 3, [0, 4, 46, 2]), []), ((.iconst 0, 1, []), []), ((.istore_n 1, 1, []), []), ((.nop, 0, [0, 172294]), [])] [.ref a0, z1] [.ref s0, .ref s1] M Q := by
  unfold F_X3_init_0_p561 at h
  obtain ⟨hc, h⟩ := gd h
  refine (x_putf4 hc).mpr ?_
  exact sF_X3_init_0_p595 h hq
def F_X3_init_0_p528 (a0 : Nat)  (M : ev_M) : Option ev_M := (if 0 ≤ ((iI (120))).toInt ∧ ((iI (120))).toInt ≤ 100000 then F_X3_init_0_p561 a0 (nx M) a0 (wN M 40 (ev_ix (iI (120))) (ev_ix (iI (120)))) else none)
theorem sF_X3_init_0_p528 {a0 : Nat}  {z1 : Value} {M : ev_M} {Q : Nat → Value → ev_M → Prop} {r : ev_M} (h : F_X3_init_0_p528 a0  M = some r) (hq : Q 0 jk r) : XP ev_prog [((.aload_n 0, 1, []), []), ((.bipush 120, 2, []), []), ((.newarray .int, 2, [40]), []), ((.putfield 59, 3, [0, 4, 21, 2]), []), ((.aload_n 0, 1, []), []), ((.sipush 240, 3, []), []), ((.newarray .int, 2, [40]), []), ((.putfield 62, 3, [0, 4, 23, 2]), []), ((.aload_n 0, 1, []), []), ((.bipush 6, 2, []), []), ((.newarray .int, 2, [40]), []), ((.putfield 65, 3, [0, 4, 24, 2]), []), ((.aload_n 0, 1, []), []), ((.bipush 6, 2, []), []), ((.newarray .int, 2, [40]), []), ((.putfield 68, 3, [0, 4, 29, 2]), []), ((.aload_n 0, 1, []), []), ((.sipush 144, 3, []), []), ((.newarray .double, 2, [43]), []), ((.putfield 71, 3, [0, 4, 30, 2]), []), ((.aload_n 0, 1, []), []), ((.sipush 1440, 3, []), []), ((.newarray .double, 2, [43]), []), ((.putfield 74, 3, [0, 4, 31, 2]), []), ((.aload_n 0, 1, []), []), ((.sipush 1440, 3, []), []), ((.newarray .boolean, 2, [44]), []), ((.putfield 77, 3, [0, 4, 32, 2]), []), ((.aload_n 0, 1, []), []), ((.iconst 3, 1, []), []), ((.newarray .int, 2, [40]), []), ((.putfield 81, 3, [0, 4, 35, 2]), []), ((.aload_n 0, 1, []), []), ((.bipush 10, 2, []), []), ((.newarray .int, 2, [40]), []), ((.putfield 84, 3, [0, 4, 36, 2]), []), ((.aload_n 0, 1, []), []), ((.bipush 10, 2, []), []), ((.newarray .int, 2, [40]), []), ((.putfield 87, 3, [0, 4, 40, 2]), []), ((.aload_n 0, 1, []), []), ((.sipush 144, 3, []), []), ((.newarray .double, 2, [43]), []), ((.putfield 90, 3, [0, 4, 41, 2]), []), ((.aload_n 0, 1, []), []), ((.sipush 144, 3, []), []), ((.newarray .double, 2, [43]), []), ((.putfield 93, 3, [0, 4, 42, 2]), []), ((.aload_n 0, 1, []), []), ((.sipush 144, 3, []), []), ((.newarray .int, 2, [40]), []), ((.putfield 96, 3, [0, 4, 43, 2]), []), ((.aload_n 0, 1, []), []), ((.bipush 10, 2, []), []), ((.newarray .int, 2, [40]), []), ((.putfield 99, 3, [0, 4, 44, 2]), []), ((.aload_n 0, 1, []), []), ((.iconst 3, 1, []), []), ((.newarray .int, 2, [40]), []), ((.putfield 102, 3, [0, 4, 45, 2]), []), ((.aload_n 0, 1, []), []), ((.iconst 3, 1, []), []), ((.newarray .int, 2, [40]), []), ((.putfield 105, 3, [0, 4, 46, 2]), []), ((.iconst 0, 1, []), []), ((.istore_n 1, 1, []), []), ((.nop, 0, [0, 172294]), [])] [.ref a0, z1] [] M Q := by
  unfold F_X3_init_0_p528 at h
  refine x_aloadn0.mpr ?_
  refine (x_bipush (by decide)).mpr ?_
  obtain ⟨hc, h⟩ := gd h
  refine (x_newa hc).mpr ?_
  exact sF_X3_init_0_p561 h hq
def F_X3_init_0_p496 (a0 : Nat) (s0 : Nat) (s1 : Nat) (M : ev_M) : Option ev_M := (if ([2] : List Nat).contains (mK M s1) = true then F_X3_init_0_p528 a0  (wA M s1 19 s0) else none)
theorem sF_X3_init_0_p496 {a0 : Nat} {s0 : Nat} {s1 : Nat} {z1 : Value} {M : ev_M} {Q : Nat → Value → ev_M → Prop} {r : ev_M} (h : F_X3_init_0_p496 a0 s0 s1 M = some r) (hq : Q 0 jk r) : XP ev_prog [((.putfield 56, 3, [0, 4, 19, 2]), []), ((.aload_n 0, 1, []), []), ((.bipush 120, 2, []), []), ((.newarray .int, 2, [40]), []), ((.putfield 59, 3, [0, 4, 21, 2]), []), ((.aload_n 0, 1, []), []), ((.sipush 240, 3, []), []), ((.newarray .int, 2, [40]), []), ((.putfield 62, 3, [0, 4, 23, 2]), []), ((.aload_n 0, 1, []), []), ((.bipush 6, 2, []), []), ((.newarray .int, 2, [40]), []), ((.putfield 65, 3, [0, 4, 24, 2]), []), ((.aload_n 0, 1, []), []), ((.bipush 6, 2, []), []), ((.newarray .int, 2, [40]), []), ((.putfield 68, 3, [0, 4, 29, 2]), []), ((.aload_n 0, 1, []), []), ((.sipush 144, 3, []), []), ((.newarray .double, 2, [43]), []), ((.putfield 71, 3, [0, 4, 30, 2]), []), ((.aload_n 0, 1, []), []), ((.sipush 1440, 3, []), []), ((.newarray .double, 2, [43]), []), ((.putfield 74, 3, [0, 4, 31, 2]), []), ((.aload_n 0, 1, []), []), ((.sipush 1440, 3, []), []), ((.newarray .boolean, 2, [44]), []), ((.putfield 77, 3, [0, 4, 32, 2]), []), ((.aload_n 0, 1, []), []), ((.iconst 3, 1, []), []), ((.newarray .int, 2, [40]), []), ((.putfield 81, 3, [0, 4, 35, 2]), []), ((.aload_n 0, 1, []), []), ((.bipush 10, 2, []), []), ((.newarray .int, 2, [40]), []), ((.putfield 84, 3, [0, 4, 36, 2]), []), ((.aload_n 0, 1, []), []), ((.bipush 10, 2, []), []), ((.newarray .int, 2, [40]), []), ((.putfield 87, 3, [0, 4, 40, 2]), []), ((.aload_n 0, 1, []), []), ((.sipush 144, 3, []), []), ((.newarray .double, 2, [43]), []), ((.putfield 90, 3, [0, 4, 41, 2]), []), ((.aload_n 0, 1, []), []), ((.sipush 144, 3, []), []), ((.newarray .double, 2, [43]), []), ((.putfield 93, 3, [0, 4, 42, 2]), []), ((.aload_n 0, 1, []), []), ((.sipush 144, 3, []), []), ((.newarray .int, 2, [40]), []), ((.putfield 96, 3, [0, 4, 43, 2]), []), ((.aload_n 0, 1, []), []), ((.bipush 10, 2, []), []), ((.newarray .int, 2, [40]), []), ((.putfield 99, 3, [0, 4, 44, 2]), []), ((.aload_n 0, 1, []), []), ((.iconst 3, 1, []), []), ((.newarray .int, 2, [40]), []), ((.putfield 102, 3, [0, 4, 45, 2]), []), ((.aload_n 0, 1, []), []), ((.iconst 3, 1, []), []), ((.newarray .int, 2, [40]), []), ((.putfield 105, 3, [0, 4, 46, 2]), []), ((.iconst 0, 1, []), []), ((.istore_n 1, 1, []), []), ((.nop, 0, [0, 172294]), [])] [.ref a0, z1] [.ref s0, .ref s1] M Q := by
  unfold F_X3_init_0_p496 at h
  obtain ⟨hc, h⟩ := gd h
  refine (x_putf4 hc).mpr ?_
  exact sF_X3_init_0_p528 h hq
def F_X3_init_0_p465 (a0 : Nat)  (M : ev_M) : Option ev_M := (if 0 ≤ ((iI (5))).toInt ∧ ((iI (5))).toInt ≤ 100000 then F_X3_init_0_p496 a0 (nx M) a0 (wN M 40 (ev_ix (iI (5))) (ev_ix (iI (5)))) else none)
theorem sF_X3_init_0_p465 {a0 : Nat}  {z1 : Value} {M : ev_M} {Q : Nat → Value → ev_M → Prop} {r : ev_M} (h : F_X3_init_0_p465 a0  M = some r) (hq : Q 0 jk r) : XP ev_prog [((.aload_n 0, 1, []), []), ((.iconst 5, 1, []), []), ((.newarray .int, 2, [40]), []), ((.putfield 56, 3, [0, 4, 19, 2]), []), ((.aload_n 0, 1, []), []), ((.bipush 120, 2, []), []), ((.newarray .int, 2, [40]), []), ((.putfield 59, 3, [0, 4, 21, 2]), []), ((.aload_n 0, 1, []), []), ((.sipush 240, 3, []), []), ((.newarray .int, 2, [40]), []), ((.putfield 62, 3, [0, 4, 23, 2]), []), ((.aload_n 0, 1, []), []), ((.bipush 6, 2, []), []), ((.newarray .int, 2, [40]), []), ((.putfield 65, 3, [0, 4, 24, 2]), []), ((.aload_n 0, 1, []), []), ((.bipush 6, 2, []), []), ((.newarray .int, 2, [40]), []), ((.putfield 68, 3, [0, 4, 29, 2]), []), ((.aload_n 0, 1, []), []), ((.sipush 144, 3, []), []), ((.newarray .double, 2, [43]), []), ((.putfield 71, 3, [0, 4, 30, 2]), []), ((.aload_n 0, 1, []), []), ((.sipush 1440, 3, []), []), ((.newarray .double, 2, [43]), []), ((.putfield 74, 3, [0, 4, 31, 2]), []), ((.aload_n 0, 1, []), []), ((.sipush 1440, 3, []), []), ((.newarray .boolean, 2, [44]), []), ((.putfield 77, 3, [0, 4, 32, 2]), []), ((.aload_n 0, 1, []), []), ((.iconst 3, 1, []), []), ((.newarray .int, 2, [40]), []), ((.putfield 81, 3, [0, 4, 35, 2]), []), ((.aload_n 0, 1, []), []), ((.bipush 10, 2, []), []), ((.newarray .int, 2, [40]), []), ((.putfield 84, 3, [0, 4, 36, 2]), []), ((.aload_n 0, 1, []), []), ((.bipush 10, 2, []), []), ((.newarray .int, 2, [40]), []), ((.putfield 87, 3, [0, 4, 40, 2]), []), ((.aload_n 0, 1, []), []), ((.sipush 144, 3, []), []), ((.newarray .double, 2, [43]), []), ((.putfield 90, 3, [0, 4, 41, 2]), []), ((.aload_n 0, 1, []), []), ((.sipush 144, 3, []), []), ((.newarray .double, 2, [43]), []), ((.putfield 93, 3, [0, 4, 42, 2]), []), ((.aload_n 0, 1, []), []), ((.sipush 144, 3, []), []), ((.newarray .int, 2, [40]), []), ((.putfield 96, 3, [0, 4, 43, 2]), []), ((.aload_n 0, 1, []), []), ((.bipush 10, 2, []), []), ((.newarray .int, 2, [40]), []), ((.putfield 99, 3, [0, 4, 44, 2]), []), ((.aload_n 0, 1, []), []), ((.iconst 3, 1, []), []), ((.newarray .int, 2, [40]), []), ((.putfield 102, 3, [0, 4, 45, 2]), []), ((.aload_n 0, 1, []), []), ((.iconst 3, 1, []), []), ((.newarray .int, 2, [40]), []), ((.putfield 105, 3, [0, 4, 46, 2]), []), ((.iconst 0, 1, []), []), ((.istore_n 1, 1, []), []), ((.nop, 0, [0, 172294]), [])] [.ref a0, z1] [] M Q := by
  unfold F_X3_init_0_p465 at h
  refine x_aloadn0.mpr ?_
  refine x_iconst.mpr ?_
  obtain ⟨hc, h⟩ := gd h
  refine (x_newa hc).mpr ?_
  exact sF_X3_init_0_p496 h hq
def F_X3_init_0_p435 (a0 : Nat) (s0 : Nat) (s1 : Nat) (M : ev_M) : Option ev_M := (if ([2] : List Nat).contains (mK M s1) = true then F_X3_init_0_p465 a0  (wA M s1 17 s0) else none)
theorem sF_X3_init_0_p435 {a0 : Nat} {s0 : Nat} {s1 : Nat} {z1 : Value} {M : ev_M} {Q : Nat → Value → ev_M → Prop} {r : ev_M} (h : F_X3_init_0_p435 a0 s0 s1 M = some r) (hq : Q 0 jk r) : XP ev_prog [((.putfield 53, 3, [0, 4, 17, 2]), []), ((.aload_n 0, 1, []), []), ((.iconst 5, 1, []), []), ((.newarray .int, 2, [40]), []), ((.putfield 56, 3, [0, 4, 19, 2]), []), ((.aload_n 0, 1, []), []), ((.bipush 120, 2, []), []), ((.newarray .int, 2, [40]), []), ((.putfield 59, 3, [0, 4, 21, 2]), []), ((.aload_n 0, 1, []), []), ((.sipush 240, 3, []), []), ((.newarray .int, 2, [40]), []), ((.putfield 62, 3, [0, 4, 23, 2]), []), ((.aload_n 0, 1, []), []), ((.bipush 6, 2, []), []), ((.newarray .int, 2, [40]), []), ((.putfield 65, 3, [0, 4, 24, 2]), []), ((.aload_n 0, 1, []), []), ((.bipush 6, 2, []), []), ((.newarray .int, 2, [40]), []), ((.putfield 68, 3, [0, 4, 29, 2]), []), ((.aload_n 0, 1, []), []), ((.sipush 144, 3, []), []), ((.newarray .double, 2, [43]), []), ((.putfield 71, 3, [0, 4, 30, 2]), []), ((.aload_n 0, 1, []), []), ((.sipush 1440, 3, []), []), ((.newarray .double, 2, [43]), []), ((.putfield 74, 3, [0, 4, 31, 2]), []), ((.aload_n 0, 1, []), []), ((.sipush 1440, 3, []), []), ((.newarray .boolean, 2, [44]), []), ((.putfield 77, 3, [0, 4, 32, 2]), []), ((.aload_n 0, 1, []), []), ((.iconst 3, 1, []), []), ((.newarray .int, 2, [40]), []), ((.putfield 81, 3, [0, 4, 35, 2]), []), ((.aload_n 0, 1, []), []), ((.bipush 10, 2, []), []), ((.newarray .int, 2, [40]), []), ((.putfield 84, 3, [0, 4, 36, 2]), []), ((.aload_n 0, 1, []), []), ((.bipush 10, 2, []), []), ((.newarray .int, 2, [40]), []), ((.putfield 87, 3, [0, 4, 40, 2]), []), ((.aload_n 0, 1, []), []), ((.sipush 144, 3, []), []), ((.newarray .double, 2, [43]), []), ((.putfield 90, 3, [0, 4, 41, 2]), []), ((.aload_n 0, 1, []), []), ((.sipush 144, 3, []), []), ((.newarray .double, 2, [43]), []), ((.putfield 93, 3, [0, 4, 42, 2]), []), ((.aload_n 0, 1, []), []), ((.sipush 144, 3, []), []), ((.newarray .int, 2, [40]), []), ((.putfield 96, 3, [0, 4, 43, 2]), []), ((.aload_n 0, 1, []), []), ((.bipush 10, 2, []), []), ((.newarray .int, 2, [40]), []), ((.putfield 99, 3, [0, 4, 44, 2]), []), ((.aload_n 0, 1, []), []), ((.iconst 3, 1, []), []), ((.newarray .int, 2, [40]), []), ((.putfield 102, 3, [0, 4, 45, 2]), []), ((.aload_n 0, 1, []), []), ((.iconst 3, 1, []), []), ((.newarray .int, 2, [40]), []), ((.putfield 105, 3, [0, 4, 46, 2]), []), ((.iconst 0, 1, []), []), ((.istore_n 1, 1, []), []), ((.nop, 0, [0, 172294]), [])] [.ref a0, z1] [.ref s0, .ref s1] M Q := by
  unfold F_X3_init_0_p435 at h
  obtain ⟨hc, h⟩ := gd h
  refine (x_putf4 hc).mpr ?_
  exact sF_X3_init_0_p465 h hq
def F_X3_init_0_p406 (a0 : Nat)  (M : ev_M) : Option ev_M := (if 0 ≤ ((iI (120))).toInt ∧ ((iI (120))).toInt ≤ 100000 then F_X3_init_0_p435 a0 (nx M) a0 (wN M 40 (ev_ix (iI (120))) (ev_ix (iI (120)))) else none)
theorem sF_X3_init_0_p406 {a0 : Nat}  {z1 : Value} {M : ev_M} {Q : Nat → Value → ev_M → Prop} {r : ev_M} (h : F_X3_init_0_p406 a0  M = some r) (hq : Q 0 jk r) : XP ev_prog [((.aload_n 0, 1, []), []), ((.bipush 120, 2, []), []), ((.newarray .int, 2, [40]), []), ((.putfield 53, 3, [0, 4, 17, 2]), []), ((.aload_n 0, 1, []), []), ((.iconst 5, 1, []), []), ((.newarray .int, 2, [40]), []), ((.putfield 56, 3, [0, 4, 19, 2]), []), ((.aload_n 0, 1, []), []), ((.bipush 120, 2, []), []), ((.newarray .int, 2, [40]), []), ((.putfield 59, 3, [0, 4, 21, 2]), []), ((.aload_n 0, 1, []), []), ((.sipush 240, 3, []), []), ((.newarray .int, 2, [40]), []), ((.putfield 62, 3, [0, 4, 23, 2]), []), ((.aload_n 0, 1, []), []), ((.bipush 6, 2, []), []), ((.newarray .int, 2, [40]), []), ((.putfield 65, 3, [0, 4, 24, 2]), []), ((.aload_n 0, 1, []), []), ((.bipush 6, 2, []), []), ((.newarray .int, 2, [40]), []), ((.putfield 68, 3, [0, 4, 29, 2]), []), ((.aload_n 0, 1, []), []), ((.sipush 144, 3, []), []), ((.newarray .double, 2, [43]), []), ((.putfield 71, 3, [0, 4, 30, 2]), []), ((.aload_n 0, 1, []), []), ((.sipush 1440, 3, []), []), ((.newarray .double, 2, [43]), []), ((.putfield 74, 3, [0, 4, 31, 2]), []), ((.aload_n 0, 1, []), []), ((.sipush 1440, 3, []), []), ((.newarray .boolean, 2, [44]), []), ((.putfield 77, 3, [0, 4, 32, 2]), []), ((.aload_n 0, 1, []), []), ((.iconst 3, 1, []), []), ((.newarray .int, 2, [40]), []), ((.putfield 81, 3, [0, 4, 35, 2]), []), ((.aload_n 0, 1, []), []), ((.bipush 10, 2, []), []), ((.newarray .int, 2, [40]), []), ((.putfield 84, 3, [0, 4, 36, 2]), []), ((.aload_n 0, 1, []), []), ((.bipush 10, 2, []), []), ((.newarray .int, 2, [40]), []), ((.putfield 87, 3, [0, 4, 40, 2]), []), ((.aload_n 0, 1, []), []), ((.sipush 144, 3, []), []), ((.newarray .double, 2, [43]), []), ((.putfield 90, 3, [0, 4, 41, 2]), []), ((.aload_n 0, 1, []), []), ((.sipush 144, 3, []), []), ((.newarray .double, 2, [43]), []), ((.putfield 93, 3, [0, 4, 42, 2]), []), ((.aload_n 0, 1, []), []), ((.sipush 144, 3, []), []), ((.newarray .int, 2, [40]), []), ((.putfield 96, 3, [0, 4, 43, 2]), []), ((.aload_n 0, 1, []), []), ((.bipush 10, 2, []), []), ((.newarray .int, 2, [40]), []), ((.putfield 99, 3, [0, 4, 44, 2]), []), ((.aload_n 0, 1, []), []), ((.iconst 3, 1, []), []), ((.newarray .int, 2, [40]), []), ((.putfield 102, 3, [0, 4, 45, 2]), []), ((.aload_n 0, 1, []), []), ((.iconst 3, 1, []), []), ((.newarray .int, 2, [40]), []), ((.putfield 105, 3, [0, 4, 46, 2]), []), ((.iconst 0, 1, []), []), ((.istore_n 1, 1, []), []), ((.nop, 0, [0, 172294]), [])] [.ref a0, z1] [] M Q := by
  unfold F_X3_init_0_p406 at h
  refine x_aloadn0.mpr ?_
  refine (x_bipush (by decide)).mpr ?_
  obtain ⟨hc, h⟩ := gd h
  refine (x_newa hc).mpr ?_
  exact sF_X3_init_0_p435 h hq
def F_X3_init_0_p378 (a0 : Nat) (s0 : Nat) (s1 : Nat) (M : ev_M) : Option ev_M := (if ([2] : List Nat).contains (mK M s1) = true then F_X3_init_0_p406 a0  (wA M s1 16 s0) else none)
theorem sF_X3_init_0_p378 {a0 : Nat} {s0 : Nat} {s1 : Nat} {z1 : Value} {M : ev_M} {Q : Nat → Value → ev_M → Prop} {r : ev_M} (h : F_X3_init_0_p378 a0 s0 s1 M = some r) (hq : Q 0 jk r) : XP ev_prog [((.putfield 50, 3, [0, 4, 16, 2]), []), ((.aload_n 0, 1, []), []), ((.bipush 120, 2, []), []), ((.newarray .int, 2, [40]), []), ((.putfield 53, 3, [0, 4, 17, 2]), []), ((.aload_n 0, 1, []), []), ((.iconst 5, 1, []), []), ((.newarray .int, 2, [40]), []), ((.putfield 56, 3, [0, 4, 19, 2]), []), ((.aload_n 0, 1, []), []), ((.bipush 120, 2, []), []), ((.newarray .int, 2, [40]), []), ((.putfield 59, 3, [0, 4, 21, 2]), []), ((.aload_n 0, 1, []), []), ((.sipush 240, 3, []), []), ((.newarray .int, 2, [40]), []), ((.putfield 62, 3, [0, 4, 23, 2]), []), ((.aload_n 0, 1, []), []), ((.bipush 6, 2, []), []), ((.newarray .int, 2, [40]), []), ((.putfield 65, 3, [0, 4, 24, 2]), []), ((.aload_n 0, 1, []), []), ((.bipush 6, 2, []), []), ((.newarray .int, 2, [40]), []), ((.putfield 68, 3, [0, 4, 29, 2]), []), ((.aload_n 0, 1, []), []), ((.sipush 144, 3, []), []), ((.newarray .double, 2, [43]), []), ((.putfield 71, 3, [0, 4, 30, 2]), []), ((.aload_n 0, 1, []), []), ((.sipush 1440, 3, []), []), ((.newarray .double, 2, [43]), []), ((.putfield 74, 3, [0, 4, 31, 2]), []), ((.aload_n 0, 1, []), []), ((.sipush 1440, 3, []), []), ((.newarray .boolean, 2, [44]), []), ((.putfield 77, 3, [0, 4, 32, 2]), []), ((.aload_n 0, 1, []), []), ((.iconst 3, 1, []), []), ((.newarray .int, 2, [40]), []), ((.putfield 81, 3, [0, 4, 35, 2]), []), ((.aload_n 0, 1, []), []), ((.bipush 10, 2, []), []), ((.newarray .int, 2, [40]), []), ((.putfield 84, 3, [0, 4, 36, 2]), []), ((.aload_n 0, 1, []), []), ((.bipush 10, 2, []), []), ((.newarray .int, 2, [40]), []), ((.putfield 87, 3, [0, 4, 40, 2]), []), ((.aload_n 0, 1, []), []), ((.sipush 144, 3, []), []), ((.newarray .double, 2, [43]), []), ((.putfield 90, 3, [0, 4, 41, 2]), []), ((.aload_n 0, 1, []), []), ((.sipush 144, 3, []), []), ((.newarray .double, 2, [43]), []), ((.putfield 93, 3, [0, 4, 42, 2]), []), ((.aload_n 0, 1, []), []), ((.sipush 144, 3, []), []), ((.newarray .int, 2, [40]), []), ((.putfield 96, 3, [0, 4, 43, 2]), []), ((.aload_n 0, 1, []), []), ((.bipush 10, 2, []), []), ((.newarray .int, 2, [40]), []), ((.putfield 99, 3, [0, 4, 44, 2]), []), ((.aload_n 0, 1, []), []), ((.iconst 3, 1, []), []), ((.newarray .int, 2, [40]), []), ((.putfield 102, 3, [0, 4, 45, 2]), []), ((.aload_n 0, 1, []), []), ((.iconst 3, 1, []), []), ((.newarray .int, 2, [40]), []), ((.putfield 105, 3, [0, 4, 46, 2]), []), ((.iconst 0, 1, []), []), ((.istore_n 1, 1, []), []), ((.nop, 0, [0, 172294]), [])] [.ref a0, z1] [.ref s0, .ref s1] M Q := by
  unfold F_X3_init_0_p378 at h
  obtain ⟨hc, h⟩ := gd h
  refine (x_putf4 hc).mpr ?_
  exact sF_X3_init_0_p406 h hq
def F_X3_init_0_p351 (a0 : Nat)  (M : ev_M) : Option ev_M := (if 0 ≤ ((iI (15))).toInt ∧ ((iI (15))).toInt ≤ 100000 then F_X3_init_0_p378 a0 (nx M) a0 (wN M 40 (ev_ix (iI (15))) (ev_ix (iI (15)))) else none)
theorem sF_X3_init_0_p351 {a0 : Nat}  {z1 : Value} {M : ev_M} {Q : Nat → Value → ev_M → Prop} {r : ev_M} (h : F_X3_init_0_p351 a0  M = some r) (hq : Q 0 jk r) : XP ev_prog [((.aload_n 0, 1, []), []), ((.bipush 15, 2, []), []), ((.newarray .int, 2, [40]), []), ((.putfield 50, 3, [0, 4, 16, 2]), []), ((.aload_n 0, 1, []), []), ((.bipush 120, 2, []), []), ((.newarray .int, 2, [40]), []), ((.putfield 53, 3, [0, 4, 17, 2]), []), ((.aload_n 0, 1, []), []), ((.iconst 5, 1, []), []), ((.newarray .int, 2, [40]), []), ((.putfield 56, 3, [0, 4, 19, 2]), []), ((.aload_n 0, 1, []), []), ((.bipush 120, 2, []), []), ((.newarray .int, 2, [40]), []), ((.putfield 59, 3, [0, 4, 21, 2]), []), ((.aload_n 0, 1, []), []), ((.sipush 240, 3, []), []), ((.newarray .int, 2, [40]), []), ((.putfield 62, 3, [0, 4, 23, 2]), []), ((.aload_n 0, 1, []), []), ((.bipush 6, 2, []), []), ((.newarray .int, 2, [40]), []), ((.putfield 65, 3, [0, 4, 24, 2]), []), ((.aload_n 0, 1, []), []), ((.bipush 6, 2, []), []), ((.newarray .int, 2, [40]), []), ((.putfield 68, 3, [0, 4, 29, 2]), []), ((.aload_n 0, 1, []), []), ((.sipush 144, 3, []), []), ((.newarray .double, 2, [43]), []), ((.putfield 71, 3, [0, 4, 30, 2]), []), ((.aload_n 0, 1, []), []), ((.sipush 1440, 3, []), []), ((.newarray .double, 2, [43]), []), ((.putfield 74, 3, [0, 4, 31, 2]), []), ((.aload_n 0, 1, []), []), ((.sipush 1440, 3, []), []), ((.newarray .boolean, 2, [44]), []), ((.putfield 77, 3, [0, 4, 32, 2]), []), ((.aload_n 0, 1, []), []), ((.iconst 3, 1, []), []), ((.newarray .int, 2, [40]), []), ((.putfield 81, 3, [0, 4, 35, 2]), []), ((.aload_n 0, 1, []), []), ((.bipush 10, 2, []), []), ((.newarray .int, 2, [40]), []), ((.putfield 84, 3, [0, 4, 36, 2]), []), ((.aload_n 0, 1, []), []), ((.bipush 10, 2, []), []), ((.newarray .int, 2, [40]), []), ((.putfield 87, 3, [0, 4, 40, 2]), []), ((.aload_n 0, 1, []), []), ((.sipush 144, 3, []), []), ((.newarray .double, 2, [43]), []), ((.putfield 90, 3, [0, 4, 41, 2]), []), ((.aload_n 0, 1, []), []), ((.sipush 144, 3, []), []), ((.newarray .double, 2, [43]), []), ((.putfield 93, 3, [0, 4, 42, 2]), []), ((.aload_n 0, 1, []), []), ((.sipush 144, 3, []), []), ((.newarray .int, 2, [40]), []), ((.putfield 96, 3, [0, 4, 43, 2]), []), ((.aload_n 0, 1, []), []), ((.bipush 10, 2, []), []), ((.newarray .int, 2, [40]), []), ((.putfield 99, 3, [0, 4, 44, 2]), []), ((.aload_n 0, 1, []), []), ((.iconst 3, 1, []), []), ((.newarray .int, 2, [40]), []), ((.putfield 102, 3, [0, 4, 45, 2]), []), ((.aload_n 0, 1, []), []), ((.iconst 3, 1, []), []), ((.newarray .int, 2, [40]), []), ((.putfield 105, 3, [0, 4, 46, 2]), []), ((.iconst 0, 1, []), []), ((.istore_n 1, 1, []), []), ((.nop, 0, [0, 172294]), [])] [.ref a0, z1] [] M Q := by
  unfold F_X3_init_0_p351 at h
  refine x_aloadn0.mpr ?_
  refine (x_bipush (by decide)).mpr ?_
  obtain ⟨hc, h⟩ := gd h
  refine (x_newa hc).mpr ?_
  exact sF_X3_init_0_p378 h hq
def F_X3_init_0_p325 (a0 : Nat) (s0 : Nat) (s1 : Nat) (M : ev_M) : Option ev_M := (if ([2] : List Nat).contains (mK M s1) = true then F_X3_init_0_p351 a0  (wA M s1 15 s0) else none)
theorem sF_X3_init_0_p325 {a0 : Nat} {s0 : Nat} {s1 : Nat} {z1 : Value} {M : ev_M} {Q : Nat → Value → ev_M → Prop} {r : ev_M} (h : F_X3_init_0_p325 a0 s0 s1 M = some r) (hq : Q 0 jk r) : XP ev_prog [((.putfield 47, 3, [0, 4, 15, 2]), []), ((.aload_n 0, 1, []), []), ((.bipush 15, 2, []), []), ((.newarray .int, 2, [40]), []), ((.putfield 50, 3, [0, 4, 16, 2]), []), ((.aload_n 0, 1, []), []), ((.bipush 120, 2, []), []), ((.newarray .int, 2, [40]), []), ((.putfield 53, 3, [0, 4, 17, 2]), []), ((.aload_n 0, 1, []), []), ((.iconst 5, 1, []), []), ((.newarray .int, 2, [40]), []), ((.putfield 56, 3, [0, 4, 19, 2]), []), ((.aload_n 0, 1, []), []), ((.bipush 120, 2, []), []), ((.newarray .int, 2, [40]), []), ((.putfield 59, 3, [0, 4, 21, 2]), []), ((.aload_n 0, 1, []), []), ((.sipush 240, 3, []), []), ((.newarray .int, 2, [40]), []), ((.putfield 62, 3, [0, 4, 23, 2]), []), ((.aload_n 0, 1, []), []), ((.bipush 6, 2, []), []), ((.newarray .int, 2, [40]), []), ((.putfield 65, 3, [0, 4, 24, 2]), []), ((.aload_n 0, 1, []), []), ((.bipush 6, 2, []), []), ((.newarray .int, 2, [40]), []), ((.putfield 68, 3, [0, 4, 29, 2]), []), ((.aload_n 0, 1, []), []), ((.sipush 144, 3, []), []), ((.newarray .double, 2, [43]), []), ((.putfield 71, 3, [0, 4, 30, 2]), []), ((.aload_n 0, 1, []), []), ((.sipush 1440, 3, []), []), ((.newarray .double, 2, [43]), []), ((.putfield 74, 3, [0, 4, 31, 2]), []), ((.aload_n 0, 1, []), []), ((.sipush 1440, 3, []), []), ((.newarray .boolean, 2, [44]), []), ((.putfield 77, 3, [0, 4, 32, 2]), []), ((.aload_n 0, 1, []), []), ((.iconst 3, 1, []), []), ((.newarray .int, 2, [40]), []), ((.putfield 81, 3, [0, 4, 35, 2]), []), ((.aload_n 0, 1, []), []), ((.bipush 10, 2, []), []), ((.newarray .int, 2, [40]), []), ((.putfield 84, 3, [0, 4, 36, 2]), []), ((.aload_n 0, 1, []), []), ((.bipush 10, 2, []), []), ((.newarray .int, 2, [40]), []), ((.putfield 87, 3, [0, 4, 40, 2]), []), ((.aload_n 0, 1, []), []), ((.sipush 144, 3, []), []), ((.newarray .double, 2, [43]), []), ((.putfield 90, 3, [0, 4, 41, 2]), []), ((.aload_n 0, 1, []), []), ((.sipush 144, 3, []), []), ((.newarray .double, 2, [43]), []), ((.putfield 93, 3, [0, 4, 42, 2]), []), ((.aload_n 0, 1, []), []), ((.sipush 144, 3, []), []), ((.newarray .int, 2, [40]), []), ((.putfield 96, 3, [0, 4, 43, 2]), []), ((.aload_n 0, 1, []), []), ((.bipush 10, 2, []), []), ((.newarray .int, 2, [40]), []), ((.putfield 99, 3, [0, 4, 44, 2]), []), ((.aload_n 0, 1, []), []), ((.iconst 3, 1, []), []), ((.newarray .int, 2, [40]), []), ((.putfield 102, 3, [0, 4, 45, 2]), []), ((.aload_n 0, 1, []), []), ((.iconst 3, 1, []), []), ((.newarray .int, 2, [40]), []), ((.putfield 105, 3, [0, 4, 46, 2]), []), ((.iconst 0, 1, []), []), ((.istore_n 1, 1, []), []), ((.nop, 0, [0, 172294]), [])] [.ref a0, z1] [.ref s0, .ref s1] M Q := by
  unfold F_X3_init_0_p325 at h
  obtain ⟨hc, h⟩ := gd h
  refine (x_putf4 hc).mpr ?_
  exact sF_X3_init_0_p351 h hq
def F_X3_init_0_p300 (a0 : Nat)  (M : ev_M) : Option ev_M := (if 0 ≤ ((iI (15))).toInt ∧ ((iI (15))).toInt ≤ 100000 then F_X3_init_0_p325 a0 (nx M) a0 (wN M 40 (ev_ix (iI (15))) (ev_ix (iI (15)))) else none)
theorem sF_X3_init_0_p300 {a0 : Nat}  {z1 : Value} {M : ev_M} {Q : Nat → Value → ev_M → Prop} {r : ev_M} (h : F_X3_init_0_p300 a0  M = some r) (hq : Q 0 jk r) : XP ev_prog [((.aload_n 0, 1, []), []), ((.bipush 15, 2, []), []), ((.newarray .int, 2, [40]), []), ((.putfield 47, 3, [0, 4, 15, 2]), []), ((.aload_n 0, 1, []), []), ((.bipush 15, 2, []), []), ((.newarray .int, 2, [40]), []), ((.putfield 50, 3, [0, 4, 16, 2]), []), ((.aload_n 0, 1, []), []), ((.bipush 120, 2, []), []), ((.newarray .int, 2, [40]), []), ((.putfield 53, 3, [0, 4, 17, 2]), []), ((.aload_n 0, 1, []), []), ((.iconst 5, 1, []), []), ((.newarray .int, 2, [40]), []), ((.putfield 56, 3, [0, 4, 19, 2]), []), ((.aload_n 0, 1, []), []), ((.bipush 120, 2, []), []), ((.newarray .int, 2, [40]), []), ((.putfield 59, 3, [0, 4, 21, 2]), []), ((.aload_n 0, 1, []), []), ((.sipush 240, 3, []), []), ((.newarray .int, 2, [40]), []), ((.putfield 62, 3, [0, 4, 23, 2]), []), ((.aload_n 0, 1, []), []), ((.bipush 6, 2, []), []), ((.newarray .int, 2, [40]), []), ((.putfield 65, 3, [0, 4, 24, 2]), []), ((.aload_n 0, 1, []), []), ((.bipush 6, 2, []), []), ((.newarray .int, 2, [40]), []), ((.putfield 68, 3, [0, 4, 29, 2]), []), ((.aload_n 0, 1, []), []), ((.sipush 144, 3, []), []), ((.newarray .double, 2, [43]), []), ((.putfield 71, 3, [0, 4, 30, 2]), []), ((.aload_n 0, 1, []), []), ((.sipush 1440, 3, []), []), ((.newarray .double, 2, [43]), []), ((.putfield 74, 3, [0, 4, 31, 2]), []), ((.aload_n 0, 1, []), []), ((.sipush 1440, 3, []), []), ((.newarray .boolean, 2, [44]), []), ((.putfield 77, 3, [0, 4, 32, 2]), []), ((.aload_n 0, 1, []), []), ((.iconst 3, 1, []), []), ((.newarray .int, 2, [40]), []), ((.putfield 81, 3, [0, 4, 35, 2]), []), ((.aload_n 0, 1, []), []), ((.bipush 10, 2, []), []), ((.newarray .int, 2, [40]), []), ((.putfield 84, 3, [0, 4, 36, 2]), []), ((.aload_n 0, 1, []), []), ((.bipush 10, 2, []), []), ((.newarray .int, 2, [40]), []), ((.putfield 87, 3, [0, 4, 40, 2]), []), ((.aload_n 0, 1, []), []), ((.sipush 144, 3, []), []), ((.newarray .double, 2, [43]), []), ((.putfield 90, 3, [0, 4, 41, 2]), []), ((.aload_n 0, 1, []), []), ((.sipush 144, 3, []), []), ((.newarray .double, 2, [43]), []), ((.putfield 93, 3, [0, 4, 42, 2]), []), ((.aload_n 0, 1, []), []), ((.sipush 144, 3, []), []), ((.newarray .int, 2, [40]), []), ((.putfield 96, 3, [0, 4, 43, 2]), []), ((.aload_n 0, 1, []), []), ((.bipush 10, 2, []), []), ((.newarray .int, 2, [40]), []), ((.putfield 99, 3, [0, 4, 44, 2]), []), ((.aload_n 0, 1, []), []), ((.iconst 3, 1, []), []), ((.newarray .int, 2, [40]), []), ((.putfield 102, 3, [0, 4, 45, 2]), []), ((.aload_n 0, 1, []), []), ((.iconst 3, 1, []), []), ((.newarray .int, 2, [40]), []), ((.putfield 105, 3, [0, 4, 46, 2]), []), ((.iconst 0, 1, []), []), ((.istore_n 1, 1, []), []), ((.nop, 0, [0, 172294]), [])] [.ref a0, z1] [] M Q := by
  unfold F_X3_init_0_p300 at h
  refine x_aloadn0.mpr ?_
  refine (x_bipush (by decide)).mpr ?_
  obtain ⟨hc, h⟩ := gd h
  refine (x_newa hc).mpr ?_
  exact sF_X3_init_0_p325 h hq
def F_X3_init_0_p276 (a0 : Nat) (s0 : Nat) (s1 : Nat) (M : ev_M) : Option ev_M := (if ([2] : List Nat).contains (mK M s1) = true then F_X3_init_0_p300 a0  (wA M s1 14 s0) else none)
theorem sF_X3_init_0_p276 {a0 : Nat} {s0 : Nat} {s1 : Nat} {z1 : Value} {M : ev_M} {Q : Nat → Value → ev_M → Prop} {r : ev_M} (h : F_X3_init_0_p276 a0 s0 s1 M = some r) (hq : Q 0 jk r) : XP ev_prog [((.putfield 44, 3, [0, 4, 14, 2]), []), ((.aload_n 0, 1, []), []), ((.bipush 15, 2, []), []), ((.newarray .int, 2, [40]), []), ((.putfield 47, 3, [0, 4, 15, 2]), []), ((.aload_n 0, 1, []), []), ((.bipush 15, 2, []), []), ((.newarray .int, 2, [40]), []), ((.putfield 50, 3, [0, 4, 16, 2]), []), ((.aload_n 0, 1, []), []), ((.bipush 120, 2, []), []), ((.newarray .int, 2, [40]), []), ((.putfield 53, 3, [0, 4, 17, 2]), []), ((.aload_n 0, 1, []), []), ((.iconst 5, 1, []), []), ((.newarray .int, 2, [40]), []), ((.putfield 56, 3, [0, 4, 19, 2]), []), ((.aload_n 0, 1, []), []), ((.bipush 120, 2, []), []), ((.newarray .int, 2, [40]), []), ((.putfield 59, 3, [0, 4, 21, 2]), []), ((.aload_n 0, 1, []), []), ((.sipush 240, 3, []), []), ((.newarray .int, 2, [40]), []), ((.putfield 62, 3, [0, 4, 23, 2]), []), ((.aload_n 0, 1, []), []), ((.bipush 6, 2, []), []), ((.newarray .int, 2, [40]), []), ((.putfield 65, 3, [0, 4, 24, 2]), []), ((.aload_n 0, 1, []), []), ((.bipush 6, 2, []), []), ((.newarray .int, 2, [40]), []), ((.putfield 68, 3, [0, 4, 29, 2]), []), ((.aload_n 0, 1, []), []), ((.sipush 144, 3, []), []), ((.newarray .double, 2, [43]), []), ((.putfield 71, 3, [0, 4, 30, 2]), []), ((.aload_n 0, 1, []), []), ((.sipush 1440, 3, []), []), ((.newarray .double, 2, [43]), []), ((.putfield 74, 3, [0, 4, 31, 2]), []), ((.aload_n 0, 1, []), []), ((.sipush 1440, 3, []), []), ((.newarray .boolean, 2, [44]), []), ((.putfield 77, 3, [0, 4, 32, 2]), []), ((.aload_n 0, 1, []), []), ((.iconst 3, 1, []), []), ((.newarray .int, 2, [40]), []), ((.putfield 81, 3, [0, 4, 35, 2]), []), ((.aload_n 0, 1, []), []), ((.bipush 10, 2, []), []), ((.newarray .int, 2, [40]), []), ((.putfield 84, 3, [0, 4, 36, 2]), []), ((.aload_n 0, 1, []), []), ((.bipush 10, 2, []), []), ((.newarray .int, 2, [40]), []), ((.putfield 87, 3, [0, 4, 40, 2]), []), ((.aload_n 0, 1, []), []), ((.sipush 144, 3, []), []), ((.newarray .double, 2, [43]), []), ((.putfield 90, 3, [0, 4, 41, 2]), []), ((.aload_n 0, 1, []), []), ((.sipush 144, 3, []), []), ((.newarray .double, 2, [43]), []), ((.putfield 93, 3, [0, 4, 42, 2]), []), ((.aload_n 0, 1, []), []), ((.sipush 144, 3, []), []), ((.newarray .int, 2, [40]), []), ((.putfield 96, 3, [0, 4, 43, 2]), []), ((.aload_n 0, 1, []), []), ((.bipush 10, 2, []), []), ((.newarray .int, 2, [40]), []), ((.putfield 99, 3, [0, 4, 44, 2]), []), ((.aload_n 0, 1, []), []), ((.iconst 3, 1, []), []), ((.newarray .int, 2, [40]), []), ((.putfield 102, 3, [0, 4, 45, 2]), []), ((.aload_n 0, 1, []), []), ((.iconst 3, 1, []), []), ((.newarray .int, 2, [40]), []), ((.putfield 105, 3, [0, 4, 46, 2]), []), ((.iconst 0, 1, []), []), ((.istore_n 1, 1, []), []), ((.nop, 0, [0, 172294]), [])] [.ref a0, z1] [.ref s0, .ref s1] M Q := by
  unfold F_X3_init_0_p276 at h
  obtain ⟨hc, h⟩ := gd h
  refine (x_putf4 hc).mpr ?_
  exact sF_X3_init_0_p300 h hq
def F_X3_init_0_p253 (a0 : Nat)  (M : ev_M) : Option ev_M := (if 0 ≤ ((iI (15))).toInt ∧ ((iI (15))).toInt ≤ 100000 then F_X3_init_0_p276 a0 (nx M) a0 (wN M 40 (ev_ix (iI (15))) (ev_ix (iI (15)))) else none)
theorem sF_X3_init_0_p253 {a0 : Nat}  {z1 : Value} {M : ev_M} {Q : Nat → Value → ev_M → Prop} {r : ev_M} (h : F_X3_init_0_p253 a0  M = some r) (hq : Q 0 jk r) : XP ev_prog [((.aload_n 0, 1, []), []), ((.bipush 15, 2, []), []), ((.newarray .int, 2, [40]), []), ((.putfield 44, 3, [0, 4, 14, 2]), []), ((.aload_n 0, 1, []), []), ((.bipush 15, 2, []), []), ((.newarray .int, 2, [40]), []), ((.putfield 47, 3, [0, 4, 15, 2]), []), ((.aload_n 0, 1, []), []), ((.bipush 15, 2, []), []), ((.newarray .int, 2, [40]), []), ((.putfield 50, 3, [0, 4, 16, 2]), []), ((.aload_n 0, 1, []), []), ((.bipush 120, 2, []), []), ((.newarray .int, 2, [40]), []), ((.putfield 53, 3, [0, 4, 17, 2]), []), ((.aload_n 0, 1, []), []), ((.iconst 5, 1, []), []), ((.newarray .int, 2, [40]), []), ((.putfield 56, 3, [0, 4, 19, 2]), []), ((.aload_n 0, 1, []), []), ((.bipush 120, 2, []), []), ((.newarray .int, 2, [40]), []), ((.putfield 59, 3, [0, 4, 21, 2]), []), ((.aload_n 0, 1, []), []), ((.sipush 240, 3, []), []), ((.newarray .int, 2, [40]), []), ((.putfield 62, 3, [0, 4, 23, 2]), []), ((.aload_n 0, 1, []), []), ((.bipush 6, 2, []), []), ((.newarray .int, 2, [40]), []), ((.putfield 65, 3, [0, 4, 24, 2]), []), ((.aload_n 0, 1, []), []), ((.bipush 6, 2, []), []), ((.newarray .int, 2, [40]), []), ((.putfield 68, 3, [0, 4, 29, 2]), []), ((.aload_n 0, 1, []), []), ((.sipush 144, 3, []), []), ((.newarray .double, 2, [43]), []), ((.putfield 71, 3, [0, 4, 30, 2]), []), ((.aload_n 0, 1, []), []), ((.sipush 1440, 3, []), []), ((.newarray .double, 2, [43]), []), ((.putfield 74, 3, [0, 4, 31, 2]), []), ((.aload_n 0, 1, []), []), ((.sipush 1440, 3, []), []), ((.newarray .boolean, 2, [44]), []), ((.putfield 77, 3, [0, 4, 32, 2]), []), ((.aload_n 0, 1, []), []), ((.iconst 3, 1, []), []), ((.newarray .int, 2, [40]), []), ((.putfield 81, 3, [0, 4, 35, 2]), []), ((.aload_n 0, 1, []), []), ((.bipush 10, 2, []), []), ((.newarray .int, 2, [40]), []), ((.putfield 84, 3, [0, 4, 36, 2]), []), ((.aload_n 0, 1, []), []), ((.bipush 10, 2, []), []), ((.newarray .int, 2, [40]), []), ((.putfield 87, 3, [0, 4, 40, 2]), []), ((.aload_n 0, 1, []), []), ((.sipush 144, 3, []), []), ((.newarray .double, 2, [43]), []), ((.putfield 90, 3, [0, 4, 41, 2]), []), ((.aload_n 0, 1, []), []), ((.sipush 144, 3, []), []), ((.newarray .double, 2, [43]), []), ((.putfield 93, 3, [0, 4, 42, 2]), []), ((.aload_n 0, 1, []), []), ((.sipush 144, 3, []), []), ((.newarray .int, 2, [40]), []), ((.putfield 96, 3, [0, 4, 43, 2]), []), ((.aload_n 0, 1, []), []), ((.bipush 10, 2, []), []), ((.newarray .int, 2, [40]), []), ((.putfield 99, 3, [0, 4, 44, 2]), []), ((.aload_n 0, 1, []), []), ((.iconst 3, 1, []), []), ((.newarray .int, 2, [40]), []), ((.putfield 102, 3, [0, 4, 45, 2]), []), ((.aload_n 0, 1, []), []), ((.iconst 3, 1, []), []), ((.newarray .int, 2, [40]), []), ((.putfield 105, 3, [0, 4, 46, 2]), []), ((.iconst 0, 1, []), []), ((.istore_n 1, 1, []), []), ((.nop, 0, [0, 172294]), [])] [.ref a0, z1] [] M Q := by
  unfold F_X3_init_0_p253 at h
  refine x_aloadn0.mpr ?_
  refine (x_bipush (by decide)).mpr ?_
  obtain ⟨hc, h⟩ := gd h
  refine (x_newa hc).mpr ?_
  exact sF_X3_init_0_p276 h hq
def F_X3_init_0_p231 (a0 : Nat) (s0 : Nat) (s1 : Nat) (M : ev_M) : Option ev_M := (if ([2] : List Nat).contains (mK M s1) = true then F_X3_init_0_p253 a0  (wA M s1 13 s0) else none)
theorem sF_X3_init_0_p231 {a0 : Nat} {s0 : Nat} {s1 : Nat} {z1 : Value} {M : ev_M} {Q : Nat → Value → ev_M → Prop} {r : ev_M} (h : F_X3_init_0_p231 a0 s0 s1 M = some r) (hq : Q 0 jk r) : XP ev_prog [((.putfield 41, 3, [0, 4, 13, 2]), []), ((.aload_n 0, 1, []), []), ((.bipush 15, 2, []), []), ((.newarray .int, 2, [40]), []), ((.putfield 44, 3, [0, 4, 14, 2]), []), ((.aload_n 0, 1, []), []), ((.bipush 15, 2, []), []), ((.newarray .int, 2, [40]), []), ((.putfield 47, 3, [0, 4, 15, 2]), []), ((.aload_n 0, 1, []), []), ((.bipush 15, 2, []), []), ((.newarray .int, 2, [40]), []), ((.putfield 50, 3, [0, 4, 16, 2]), []), ((.aload_n 0, 1, []), []), ((.bipush 120, 2, []), []), ((.newarray .int, 2, [40]), []), ((.putfield 53, 3, [0, 4, 17, 2]), []), ((.aload_n 0, 1, []), []), ((.iconst 5, 1, []), []), ((.newarray .int, 2, [40]), []), ((.putfield 56, 3, [0, 4, 19, 2]), []), ((.aload_n 0, 1, []), []), ((.bipush 120, 2, []), []), ((.newarray .int, 2, [40]), []), ((.putfield 59, 3, [0, 4, 21, 2]), []), ((.aload_n 0, 1, []), []), ((.sipush 240, 3, []), []), ((.newarray .int, 2, [40]), []), ((.putfield 62, 3, [0, 4, 23, 2]), []), ((.aload_n 0, 1, []), []), ((.bipush 6, 2, []), []), ((.newarray .int, 2, [40]), []), ((.putfield 65, 3, [0, 4, 24, 2]), []), ((.aload_n 0, 1, []), []), ((.bipush 6, 2, []), []), ((.newarray .int, 2, [40]), []), ((.putfield 68, 3, [0, 4, 29, 2]), []), ((.aload_n 0, 1, []), []), ((.sipush 144, 3, []), []), ((.newarray .double, 2, [43]), []), ((.putfield 71, 3, [0, 4, 30, 2]), []), ((.aload_n 0, 1, []), []), ((.sipush 1440, 3, []), []), ((.newarray .double, 2, [43]), []), ((.putfield 74, 3, [0, 4, 31, 2]), []), ((.aload_n 0, 1, []), []), ((.sipush 1440, 3, []), []), ((.newarray .boolean, 2, [44]), []), ((.putfield 77, 3, [0, 4, 32, 2]), []), ((.aload_n 0, 1, []), []), ((.iconst 3, 1, []), []), ((.newarray .int, 2, [40]), []), ((.putfield 81, 3, [0, 4, 35, 2]), []), ((.aload_n 0, 1, []), []), ((.bipush 10, 2, []), []), ((.newarray .int, 2, [40]), []), ((.putfield 84, 3, [0, 4, 36, 2]), []), ((.aload_n 0, 1, []), []), ((.bipush 10, 2, []), []), ((.newarray .int, 2, [40]), []), ((.putfield 87, 3, [0, 4, 40, 2]), []), ((.aload_n 0, 1, []), []), ((.sipush 144, 3, []), []), ((.newarray .double, 2, [43]), []), ((.putfield 90, 3, [0, 4, 41, 2]), []), ((.aload_n 0, 1, []), []), ((.sipush 144, 3, []), []), ((.newarray .double, 2, [43]), []), ((.putfield 93, 3, [0, 4, 42, 2]), []), ((.aload_n 0, 1, []), []), ((.sipush 144, 3, []), []), ((.newarray .int, 2, [40]), []), ((.putfield 96, 3, [0, 4, 43, 2]), []), ((.aload_n 0, 1, []), []), ((.bipush 10, 2, []), []), ((.newarray .int, 2, [40]), []), ((.putfield 99, 3, [0, 4, 44, 2]), []), ((.aload_n 0, 1, []), []), ((.iconst 3, 1, []), []), ((.newarray .int, 2, [40]), []), ((.putfield 102, 3, [0, 4, 45, 2]), []), ((.aload_n 0, 1, []), []), ((.iconst 3, 1, []), []), ((.newarray .int, 2, [40]), []), ((.putfield 105, 3, [0, 4, 46, 2]), []), ((.iconst 0, 1, []), []), ((.istore_n 1, 1, []), []), ((.nop, 0, [0, 172294]), [])] [.ref a0, z1] [.ref s0, .ref s1] M Q := by
  unfold F_X3_init_0_p231 at h
  obtain ⟨hc, h⟩ := gd h
  refine (x_putf4 hc).mpr ?_
  exact sF_X3_init_0_p253 h hq
def F_X3_init_0_p210 (a0 : Nat)  (M : ev_M) : Option ev_M := (if 0 ≤ ((iI (15))).toInt ∧ ((iI (15))).toInt ≤ 100000 then F_X3_init_0_p231 a0 (nx M) a0 (wN M 40 (ev_ix (iI (15))) (ev_ix (iI (15)))) else none)
theorem sF_X3_init_0_p210 {a0 : Nat}  {z1 : Value} {M : ev_M} {Q : Nat → Value → ev_M → Prop} {r : ev_M} (h : F_X3_init_0_p210 a0  M = some r) (hq : Q 0 jk r) : XP ev_prog [((.aload_n 0, 1, []), []), ((.bipush 15, 2, []), []), ((.newarray .int, 2, [40]), []), ((.putfield 41, 3, [0, 4, 13, 2]), []), ((.aload_n 0, 1, []), []), ((.bipush 15, 2, []), []), ((.newarray .int, 2, [40]), []), ((.putfield 44, 3, [0, 4, 14, 2]), []), ((.aload_n 0, 1, []), []), ((.bipush 15, 2, []), []), ((.newarray .int, 2, [40]), []), ((.putfield 47, 3, [0, 4, 15, 2]), []), ((.aload_n 0, 1, []), []), ((.bipush 15, 2, []), []), ((.newarray .int, 2, [40]), []), ((.putfield 50, 3, [0, 4, 16, 2]), []), ((.aload_n 0, 1, []), []), ((.bipush 120, 2, []), []), ((.newarray .int, 2, [40]), []), ((.putfield 53, 3, [0, 4, 17, 2]), []), ((.aload_n 0, 1, []), []), ((.iconst 5, 1, []), []), ((.newarray .int, 2, [40]), []), ((.putfield 56, 3, [0, 4, 19, 2]), []), ((.aload_n 0, 1, []), []), ((.bipush 120, 2, []), []), ((.newarray .int, 2, [40]), []), ((.putfield 59, 3, [0, 4, 21, 2]), []), ((.aload_n 0, 1, []), []), ((.sipush 240, 3, []), []), ((.newarray .int, 2, [40]), []), ((.putfield 62, 3, [0, 4, 23, 2]), []), ((.aload_n 0, 1, []), []), ((.bipush 6, 2, []), []), ((.newarray .int, 2, [40]), []), ((.putfield 65, 3, [0, 4, 24, 2]), []), ((.aload_n 0, 1, []), []), ((.bipush 6, 2, []), []), ((.newarray .int, 2, [40]), []), ((.putfield 68, 3, [0, 4, 29, 2]), []), ((.aload_n 0, 1, []), []), ((.sipush 144, 3, []), []), ((.newarray .double, 2, [43]), []), ((.putfield 71, 3, [0, 4, 30, 2]), []), ((.aload_n 0, 1, []), []), ((.sipush 1440, 3, []), []), ((.newarray .double, 2, [43]), []), ((.putfield 74, 3, [0, 4, 31, 2]), []), ((.aload_n 0, 1, []), []), ((.sipush 1440, 3, []), []), ((.newarray .boolean, 2, [44]), []), ((.putfield 77, 3, [0, 4, 32, 2]), []), ((.aload_n 0, 1, []), []), ((.iconst 3, 1, []), []), ((.newarray .int, 2, [40]), []), ((.putfield 81, 3, [0, 4, 35, 2]), []), ((.aload_n 0, 1, []), []), ((.bipush 10, 2, []), []), ((.newarray .int, 2, [40]), []), ((.putfield 84, 3, [0, 4, 36, 2]), []), ((.aload_n 0, 1, []), []), ((.bipush 10, 2, []), []), ((.newarray .int, 2, [40]), []), ((.putfield 87, 3, [0, 4, 40, 2]), []), ((.aload_n 0, 1, []), []), ((.sipush 144, 3, []), []), ((.newarray .double, 2, [43]), []), ((.putfield 90, 3, [0, 4, 41, 2]), []), ((.aload_n 0, 1, []), []), ((.sipush 144, 3, []), []), ((.newarray .double, 2, [43]), []), ((.putfield 93, 3, [0, 4, 42, 2]), []), ((.aload_n 0, 1, []), []), ((.sipush 144, 3, []), []), ((.newarray .int, 2, [40]), []), ((.putfield 96, 3, [0, 4, 43, 2]), []), ((.aload_n 0, 1, []), []), ((.bipush 10, 2, []), []), ((.newarray .int, 2, [40]), []), ((.putfield 99, 3, [0, 4, 44, 2]), []), ((.aload_n 0, 1, []), []), ((.iconst 3, 1, []), []), ((.newarray .int, 2, [40]), []), ((.putfield 102, 3, [0, 4, 45, 2]), []), ((.aload_n 0, 1, []), []), ((.iconst 3, 1, []), []), ((.newarray .int, 2, [40]), []), ((.putfield 105, 3, [0, 4, 46, 2]), []), ((.iconst 0, 1, []), []), ((.istore_n 1, 1, []), []), ((.nop, 0, [0, 172294]), [])] [.ref a0, z1] [] M Q := by
  unfold F_X3_init_0_p210 at h
  refine x_aloadn0.mpr ?_
  refine (x_bipush (by decide)).mpr ?_
  obtain ⟨hc, h⟩ := gd h
  refine (x_newa hc).mpr ?_
  exact sF_X3_init_0_p231 h hq
def F_X3_init_0_p190 (a0 : Nat) (s0 : Nat) (s1 : Nat) (M : ev_M) : Option ev_M := (if ([2] : List Nat).contains (mK M s1) = true then F_X3_init_0_p210 a0  (wA M s1 12 s0) else none)
theorem sF_X3_init_0_p190 {a0 : Nat} {s0 : Nat} {s1 : Nat} {z1 : Value} {M : ev_M} {Q : Nat → Value → ev_M → Prop} {r : ev_M} (h : F_X3_init_0_p190 a0 s0 s1 M = some r) (hq : Q 0 jk r) : XP ev_prog [((.putfield 38, 3, [0, 4, 12, 2]), []), ((.aload_n 0, 1, []), []), ((.bipush 15, 2, []), []), ((.newarray .int, 2, [40]), []), ((.putfield 41, 3, [0, 4, 13, 2]), []), ((.aload_n 0, 1, []), []), ((.bipush 15, 2, []), []), ((.newarray .int, 2, [40]), []), ((.putfield 44, 3, [0, 4, 14, 2]), []), ((.aload_n 0, 1, []), []), ((.bipush 15, 2, []), []), ((.newarray .int, 2, [40]), []), ((.putfield 47, 3, [0, 4, 15, 2]), []), ((.aload_n 0, 1, []), []), ((.bipush 15, 2, []), []), ((.newarray .int, 2, [40]), []), ((.putfield 50, 3, [0, 4, 16, 2]), []), ((.aload_n 0, 1, []), []), ((.bipush 120, 2, []), []), ((.newarray .int, 2, [40]), []), ((.putfield 53, 3, [0, 4, 17, 2]), []), ((.aload_n 0, 1, []), []), ((.iconst 5, 1, []), []), ((.newarray .int, 2, [40]), []), ((.putfield 56, 3, [0, 4, 19, 2]), []), ((.aload_n 0, 1, []), []), ((.bipush 120, 2, []), []), ((.newarray .int, 2, [40]), []), ((.putfield 59, 3, [0, 4, 21, 2]), []), ((.aload_n 0, 1, []), []), ((.sipush 240, 3, []), []), ((.newarray .int, 2, [40]), []), ((.putfield 62, 3, [0, 4, 23, 2]), []), ((.aload_n 0, 1, []), []), ((.bipush 6, 2, []), []), ((.newarray .int, 2, [40]), []), ((.putfield 65, 3, [0, 4, 24, 2]), []), ((.aload_n 0, 1, []), []), ((.bipush 6, 2, []), []), ((.newarray .int, 2, [40]), []), ((.putfield 68, 3, [0, 4, 29, 2]), []), ((.aload_n 0, 1, []), []), ((.sipush 144, 3, []), []), ((.newarray .double, 2, [43]), []), ((.putfield 71, 3, [0, 4, 30, 2]), []), ((.aload_n 0, 1, []), []), ((.sipush 1440, 3, []), []), ((.newarray .double, 2, [43]), []), ((.putfield 74, 3, [0, 4, 31, 2]), []), ((.aload_n 0, 1, []), []), ((.sipush 1440, 3, []), []), ((.newarray .boolean, 2, [44]), []), ((.putfield 77, 3, [0, 4, 32, 2]), []), ((.aload_n 0, 1, []), []), ((.iconst 3, 1, []), []), ((.newarray .int, 2, [40]), []), ((.putfield 81, 3, [0, 4, 35, 2]), []), ((.aload_n 0, 1, []), []), ((.bipush 10, 2, []), []), ((.newarray .int, 2, [40]), []), ((.putfield 84, 3, [0, 4, 36, 2]), []), ((.aload_n 0, 1, []), []), ((.bipush 10, 2, []), []), ((.newarray .int, 2, [40]), []), ((.putfield 87, 3, [0, 4, 40, 2]), []), ((.aload_n 0, 1, []), []), ((.sipush 144, 3, []), []), ((.newarray .double, 2, [43]), []), ((.putfield 90, 3, [0, 4, 41, 2]), []), ((.aload_n 0, 1, []), []), ((.sipush 144, 3, []), []), ((.newarray .double, 2, [43]), []), ((.putfield 93, 3, [0, 4, 42, 2]), []), ((.aload_n 0, 1, []), []), ((.sipush 144, 3, []), []), ((.newarray .int, 2, [40]), []), ((.putfield 96, 3, [0, 4, 43, 2]), []), ((.aload_n 0, 1, []), []), ((.bipush 10, 2, []), []), ((.newarray .int, 2, [40]), []), ((.putfield 99, 3, [0, 4, 44, 2]), []), ((.aload_n 0, 1, []), []), ((.iconst 3, 1, []), []), ((.newarray .int, 2, [40]), []), ((.putfield 102, 3, [0, 4, 45, 2]), []), ((.aload_n 0, 1, []), []), ((.iconst 3, 1, []), []), ((.newarray .int, 2, [40]), []), ((.putfield 105, 3, [0, 4, 46, 2]), []), ((.iconst 0, 1, []), []), ((.istore_n 1, 1, []), []), ((.nop, 0, [0, 172294]), [])] [.ref a0, z1] [.ref s0, .ref s1] M Q := by
  unfold F_X3_init_0_p190 at h
  obtain ⟨hc, h⟩ := gd h
  refine (x_putf4 hc).mpr ?_
  exact sF_X3_init_0_p210 h hq
def F_X3_init_0_p171 (a0 : Nat)  (M : ev_M) : Option ev_M := (if 0 ≤ ((iI (5))).toInt ∧ ((iI (5))).toInt ≤ 100000 then F_X3_init_0_p190 a0 (nx M) a0 (wN M 40 (ev_ix (iI (5))) (ev_ix (iI (5)))) else none)
theorem sF_X3_init_0_p171 {a0 : Nat}  {z1 : Value} {M : ev_M} {Q : Nat → Value → ev_M → Prop} {r : ev_M} (h : F_X3_init_0_p171 a0  M = some r) (hq : Q 0 jk r) : XP ev_prog [((.aload_n 0, 1, []), []), ((.iconst 5, 1, []), []), ((.newarray .int, 2, [40]), []), ((.putfield 38, 3, [0, 4, 12, 2]), []), ((.aload_n 0, 1, []), []), ((.bipush 15, 2, []), []), ((.newarray .int, 2, [40]), []), ((.putfield 41, 3, [0, 4, 13, 2]), []), ((.aload_n 0, 1, []), []), ((.bipush 15, 2, []), []), ((.newarray .int, 2, [40]), []), ((.putfield 44, 3, [0, 4, 14, 2]), []), ((.aload_n 0, 1, []), []), ((.bipush 15, 2, []), []), ((.newarray .int, 2, [40]), []), ((.putfield 47, 3, [0, 4, 15, 2]), []), ((.aload_n 0, 1, []), []), ((.bipush 15, 2, []), []), ((.newarray .int, 2, [40]), []), ((.putfield 50, 3, [0, 4, 16, 2]), []), ((.aload_n 0, 1, []), []), ((.bipush 120, 2, []), []), ((.newarray .int, 2, [40]), []), ((.putfield 53, 3, [0, 4, 17, 2]), []), ((.aload_n 0, 1, []), []), ((.iconst 5, 1, []), []), ((.newarray .int, 2, [40]), []), ((.putfield 56, 3, [0, 4, 19, 2]), []), ((.aload_n 0, 1, []), []), ((.bipush 120, 2, []), []), ((.newarray .int, 2, [40]), []), ((.putfield 59, 3, [0, 4, 21, 2]), []), ((.aload_n 0, 1, []), []), ((.sipush 240, 3, []), []), ((.newarray .int, 2, [40]), []), ((.putfield 62, 3, [0, 4, 23, 2]), []), ((.aload_n 0, 1, []), []), ((.bipush 6, 2, []), []), ((.newarray .int, 2, [40]), []), ((.putfield 65, 3, [0, 4, 24, 2]), []), ((.aload_n 0, 1, []), []), ((.bipush 6, 2, []), []), ((.newarray .int, 2, [40]), []), ((.putfield 68, 3, [0, 4, 29, 2]), []), ((.aload_n 0, 1, []), []), ((.sipush 144, 3, []), []), ((.newarray .double, 2, [43]), []), ((.putfield 71, 3, [0, 4, 30, 2]), []), ((.aload_n 0, 1, []), []), ((.sipush 1440, 3, []), []), ((.newarray .double, 2, [43]), []), ((.putfield 74, 3, [0, 4, 31, 2]), []), ((.aload_n 0, 1, []), []), ((.sipush 1440, 3, []), []), ((.newarray .boolean, 2, [44]), []), ((.putfield 77, 3, [0, 4, 32, 2]), []), ((.aload_n 0, 1, []), []), ((.iconst 3, 1, []), []), ((.newarray .int, 2, [40]), []), ((.putfield 81, 3, [0, 4, 35, 2]), []), ((.aload_n 0, 1, []), []), ((.bipush 10, 2, []), []), ((.newarray .int, 2, [40]), []), ((.putfield 84, 3, [0, 4, 36, 2]), []), ((.aload_n 0, 1, []), []), ((.bipush 10, 2, []), []), ((.newarray .int, 2, [40]), []), ((.putfield 87, 3, [0, 4, 40, 2]), []), ((.aload_n 0, 1, []), []), ((.sipush 144, 3, []), []), ((.newarray .double, 2, [43]), []), ((.putfield 90, 3, [0, 4, 41, 2]), []), ((.aload_n 0, 1, []), []), ((.sipush 144, 3, []), []), ((.newarray .double, 2, [43]), []), ((.putfield 93, 3, [0, 4, 42, 2]), []), ((.aload_n 0, 1, []), []), ((.sipush 144, 3, []), []), ((.newarray .int, 2, [40]), []), ((.putfield 96, 3, [0, 4, 43, 2]), []), ((.aload_n 0, 1, []), []), ((.bipush 10, 2, []), []), ((.newarray .int, 2, [40]), []), ((.putfield 99, 3, [0, 4, 44, 2]), []), ((.aload_n 0, 1, []), []), ((.iconst 3, 1, []), []), ((.newarray .int, 2, [40]), []), ((.putfield 102, 3, [0, 4, 45, 2]), []), ((.aload_n 0, 1, []), []), ((.iconst 3, 1, []), []), ((.newarray .int, 2, [40]), []), ((.putfield 105, 3, [0, 4, 46, 2]), []), ((.iconst 0, 1, []), []), ((.istore_n 1, 1, []), []), ((.nop, 0, [0, 172294]), [])] [.ref a0, z1] [] M Q := by
  unfold F_X3_init_0_p171 at h
  refine x_aloadn0.mpr ?_
  refine x_iconst.mpr ?_
  obtain ⟨hc, h⟩ := gd h
  refine (x_newa hc).mpr ?_
  exact sF_X3_init_0_p190 h hq
def F_X3_init_0_p153 (a0 : Nat) (s0 : Nat) (s1 : Nat) (M : ev_M) : Option ev_M := (if ([2] : List Nat).contains (mK M s1) = true then F_X3_init_0_p171 a0  (wA M s1 11 s0) else none)
theorem sF_X3_init_0_p153 {a0 : Nat} {s0 : Nat} {s1 : Nat} {z1 : Value} {M : ev_M} {Q : Nat → Value → ev_M → Prop} {r : ev_M} (h : F_X3_init_0_p153 a0 s0 s1 M = some r) (hq : Q 0 jk r) : XP ev_prog [((.putfield 35, 3, [0, 4, 11, 2]), []), ((.aload_n 0, 1, []), []), ((.iconst 5, 1, []), []), ((.newarray .int, 2, [40]), []), ((.putfield 38, 3, [0, 4, 12, 2]), []), ((.aload_n 0, 1, []), []), ((.bipush 15, 2, []), []), ((.newarray .int, 2, [40]), []), ((.putfield 41, 3, [0, 4, 13, 2]), []), ((.aload_n 0, 1, []), []), ((.bipush 15, 2, []), []), ((.newarray .int, 2, [40]), []), ((.putfield 44, 3, [0, 4, 14, 2]), []), ((.aload_n 0, 1, []), []), ((.bipush 15, 2, []), []), ((.newarray .int, 2, [40]), []), ((.putfield 47, 3, [0, 4, 15, 2]), []), ((.aload_n 0, 1, []), []), ((.bipush 15, 2, []), []), ((.newarray .int, 2, [40]), []), ((.putfield 50, 3, [0, 4, 16, 2]), []), ((.aload_n 0, 1, []), []), ((.bipush 120, 2, []), []), ((.newarray .int, 2, [40]), []), ((.putfield 53, 3, [0, 4, 17, 2]), []), ((.aload_n 0, 1, []), []), ((.iconst 5, 1, []), []), ((.newarray .int, 2, [40]), []), ((.putfield 56, 3, [0, 4, 19, 2]), []), ((.aload_n 0, 1, []), []), ((.bipush 120, 2, []), []), ((.newarray .int, 2, [40]), []), ((.putfield 59, 3, [0, 4, 21, 2]), []), ((.aload_n 0, 1, []), []), ((.sipush 240, 3, []), []), ((.newarray .int, 2, [40]), []), ((.putfield 62, 3, [0, 4, 23, 2]), []), ((.aload_n 0, 1, []), []), ((.bipush 6, 2, []), []), ((.newarray .int, 2, [40]), []), ((.putfield 65, 3, [0, 4, 24, 2]), []), ((.aload_n 0, 1, []), []), ((.bipush 6, 2, []), []), ((.newarray .int, 2, [40]), []), ((.putfield 68, 3, [0, 4, 29, 2]), []), ((.aload_n 0, 1, []), []), ((.sipush 144, 3, []), []), ((.newarray .double, 2, [43]), []), ((.putfield 71, 3, [0, 4, 30, 2]), []), ((.aload_n 0, 1, []), []), ((.sipush 1440, 3, []), []), ((.newarray .double, 2, [43]), []), ((.putfield 74, 3, [0, 4, 31, 2]), []), ((.aload_n 0, 1, []), []), ((.sipush 1440, 3, []), []), ((.newarray .boolean, 2, [44]), []), ((.putfield 77, 3, [0, 4, 32, 2]), []), ((.aload_n 0, 1, []), []), ((.iconst 3, 1, []), []), ((.newarray .int, 2, [40]), []), ((.putfield 81, 3, [0, 4, 35, 2]), []), ((.aload_n 0, 1, []), []), ((.bipush 10, 2, []), []), ((.newarray .int, 2, [40]), []), ((.putfield 84, 3, [0, 4, 36, 2]), []), ((.aload_n 0, 1, []), []), ((.bipush 10, 2, []), []), ((.newarray .int, 2, [40]), []), ((.putfield 87, 3, [0, 4, 40, 2]), []), ((.aload_n 0, 1, []), []), ((.sipush 144, 3, []), []), ((.newarray .double, 2, [43]), []), ((.putfield 90, 3, [0, 4, 41, 2]), []), ((.aload_n 0, 1, []), []), ((.sipush 144, 3, []), []), ((.newarray .double, 2, [43]), []), ((.putfield 93, 3, [0, 4, 42, 2]), []), ((.aload_n 0, 1, []), []), ((.sipush 144, 3, []), []), ((.newarray .int, 2, [40]), []), ((.putfield 96, 3, [0, 4, 43, 2]), []), ((.aload_n 0, 1, []), []), ((.bipush 10, 2, []), []), ((.newarray .int, 2, [40]), []), ((.putfield 99, 3, [0, 4, 44, 2]), []), ((.aload_n 0, 1, []), []), ((.iconst 3, 1, []), []), ((.newarray .int, 2, [40]), []), ((.putfield 102, 3, [0, 4, 45, 2]), []), ((.aload_n 0, 1, []), []), ((.iconst 3, 1, []), []), ((.newarray .int, 2, [40]), []), ((.putfield 105, 3, [0, 4, 46, 2]), []), ((.iconst 0, 1, []), []), ((.istore_n 1, 1, []), []), ((.nop, 0, [0, 172294]), [])] [.ref a0, z1] [.ref s0, .ref s1] M Q := by
  unfold F_X3_init_0_p153 at h
  obtain ⟨hc, h⟩ := gd h
  refine (x_putf4 hc).mpr ?_
  exact sF_X3_init_0_p171 h hq
def F_X3_init_0_p136 (a0 : Nat)  (M : ev_M) : Option ev_M := (if 0 ≤ ((iI (5))).toInt ∧ ((iI (5))).toInt ≤ 100000 then F_X3_init_0_p153 a0 (nx M) a0 (wN M 40 (ev_ix (iI (5))) (ev_ix (iI (5)))) else none)
theorem sF_X3_init_0_p136 {a0 : Nat}  {z1 : Value} {M : ev_M} {Q : Nat → Value → ev_M → Prop} {r : ev_M} (h : F_X3_init_0_p136 a0  M = some r) (hq : Q 0 jk r) : XP ev_prog [((.aload_n 0, 1, []), []), ((.iconst 5, 1, []), []), ((.newarray .int, 2, [40]), []), ((.putfield 35, 3, [0, 4, 11, 2]), []), ((.aload_n 0, 1, []), []), ((.iconst 5, 1, []), []), ((.newarray .int, 2, [40]), []), ((.putfield 38, 3, [0, 4, 12, 2]), []), ((.aload_n 0, 1, []), []), ((.bipush 15, 2, []), []), ((.newarray .int, 2, [40]), []), ((.putfield 41, 3, [0, 4, 13, 2]), []), ((.aload_n 0, 1, []), []), ((.bipush 15, 2, []), []), ((.newarray .int, 2, [40]), []), ((.putfield 44, 3, [0, 4, 14, 2]), []), ((.aload_n 0, 1, []), []), ((.bipush 15, 2, []), []), ((.newarray .int, 2, [40]), []), ((.putfield 47, 3, [0, 4, 15, 2]), []), ((.aload_n 0, 1, []), []), ((.bipush 15, 2, []), []), ((.newarray .int, 2, [40]), []), ((.putfield 50, 3, [0, 4, 16, 2]), []), ((.aload_n 0, 1, []), []), ((.bipush 120, 2, []), []), ((.newarray .int, 2, [40]), []), ((.putfield 53, 3, [0, 4, 17, 2]), []), ((.aload_n 0, 1, []), []), ((.iconst 5, 1, []), []), ((.newarray .int, 2, [40]), []), ((.putfield 56, 3, [0, 4, 19, 2]), []), ((.aload_n 0, 1, []), []), ((.bipush 120, 2, []), []), ((.newarray .int, 2, [40]), []), ((.putfield 59, 3, [0, 4, 21, 2]), []), ((.aload_n 0, 1, []), []), ((.sipush 240, 3, []), []), ((.newarray .int, 2, [40]), []), ((.putfield 62, 3, [0, 4, 23, 2]), []), ((.aload_n 0, 1, []), []), ((.bipush 6, 2, []), []), ((.newarray .int, 2, [40]), []), ((.putfield 65, 3, [0, 4, 24, 2]), []), ((.aload_n 0, 1, []), []), ((.bipush 6, 2, []), []), ((.newarray .int, 2, [40]), []), ((.putfield 68, 3, [0, 4, 29, 2]), []), ((.aload_n 0, 1, []), []), ((.sipush 144, 3, []), []), ((.newarray .double, 2, [43]), []), ((.putfield 71, 3, [0, 4, 30, 2]), []), ((.aload_n 0, 1, []), []), ((.sipush 1440, 3, []), []), ((.newarray .double, 2, [43]), []), ((.putfield 74, 3, [0, 4, 31, 2]), []), ((.aload_n 0, 1, []), []), ((.sipush 1440, 3, []), []), ((.newarray .boolean, 2, [44]), []), ((.putfield 77, 3, [0, 4, 32, 2]), []), ((.aload_n 0, 1, []), []), ((.iconst 3, 1, []), []), ((.newarray .int, 2, [40]), []), ((.putfield 81, 3, [0, 4, 35, 2]), []), ((.aload_n 0, 1, []), []), ((.bipush 10, 2, []), []), ((.newarray .int, 2, [40]), []), ((.putfield 84, 3, [0, 4, 36, 2]), []), ((.aload_n 0, 1, []), []), ((.bipush 10, 2, []), []), ((.newarray .int, 2, [40]), []), ((.putfield 87, 3, [0, 4, 40, 2]), []), ((.aload_n 0, 1, []), []), ((.sipush 144, 3, []), []), ((.newarray .double, 2, [43]), []), ((.putfield 90, 3, [0, 4, 41, 2]), []), ((.aload_n 0, 1, []), []), ((.sipush 144, 3, []), []), ((.newarray .double, 2, [43]), []), ((.putfield 93, 3, [0, 4, 42, 2]), []), ((.aload_n 0, 1, []), []), ((.sipush 144, 3, []), []), ((.newarray .int, 2, [40]), []), ((.putfield 96, 3, [0, 4, 43, 2]), []), ((.aload_n 0, 1, []), []), ((.bipush 10, 2, []), []), ((.newarray .int, 2, [40]), []), ((.putfield 99, 3, [0, 4, 44, 2]), []), ((.aload_n 0, 1, []), []), ((.iconst 3, 1, []), []), ((.newarray .int, 2, [40]), []), ((.putfield 102, 3, [0, 4, 45, 2]), []), ((.aload_n 0, 1, []), []), ((.iconst 3, 1, []), []), ((.newarray .int, 2, [40]), []), ((.putfield 105, 3, [0, 4, 46, 2]), []), ((.iconst 0, 1, []), []), ((.istore_n 1, 1, []), []), ((.nop, 0, [0, 172294]), [])] [.ref a0, z1] [] M Q := by
  unfold F_X3_init_0_p136 at h
  refine x_aloadn0.mpr ?_
  refine x_iconst.mpr ?_
  obtain ⟨hc, h⟩ := gd h
  refine (x_newa hc).mpr ?_
  exact sF_X3_init_0_p153 h hq
def F_X3_init_0_p120 (a0 : Nat) (s0 : Nat) (s1 : Nat) (M : ev_M) : Option ev_M := (if ([2] : List Nat).contains (mK M s1) = true then F_X3_init_0_p136 a0  (wA M s1 10 s0) else none)
theorem sF_X3_init_0_p120 {a0 : Nat} {s0 : Nat} {s1 : Nat} {z1 : Value} {M : ev_M} {Q : Nat → Value → ev_M → Prop} {r : ev_M} (h : F_X3_init_0_p120 a0 s0 s1 M = some r) (hq : Q 0 jk r) : XP ev_prog [((.putfield 32, 3, [0, 4, 10, 2]), []), ((.aload_n 0, 1, []), []), ((.iconst 5, 1, []), []), ((.newarray .int, 2, [40]), []), ((.putfield 35, 3, [0, 4, 11, 2]), []), ((.aload_n 0, 1, []), []), ((.iconst 5, 1, []), []), ((.newarray .int, 2, [40]), []), ((.putfield 38, 3, [0, 4, 12, 2]), []), ((.aload_n 0, 1, []), []), ((.bipush 15, 2, []), []), ((.newarray .int, 2, [40]), []), ((.putfield 41, 3, [0, 4, 13, 2]), []), ((.aload_n 0, 1, []), []), ((.bipush 15, 2, []), []), ((.newarray .int, 2, [40]), []), ((.putfield 44, 3, [0, 4, 14, 2]), []), ((.aload_n 0, 1, []), []), ((.bipush 15, 2, []), []), ((.newarray .int, 2, [40]), []), ((.putfield 47, 3, [0, 4, 15, 2]), []), ((.aload_n 0, 1, []), []), ((.bipush 15, 2, []), []), ((.newarray .int, 2, [40]), []), ((.putfield 50, 3, [0, 4, 16, 2]), []), ((.aload_n 0, 1, []), []), ((.bipush 120, 2, []), []), ((.newarray .int, 2, [40]), []), ((.putfield 53, 3, [0, 4, 17, 2]), []), ((.aload_n 0, 1, []), []), ((.iconst 5, 1, []), []), ((.newarray .int, 2, [40]), []), ((.putfield 56, 3, [0, 4, 19, 2]), []), ((.aload_n 0, 1, []), []), ((.bipush 120, 2, []), []), ((.newarray .int, 2, [40]), []), ((.putfield 59, 3, [0, 4, 21, 2]), []), ((.aload_n 0, 1, []), []), ((.sipush 240, 3, []), []), ((.newarray .int, 2, [40]), []), ((.putfield 62, 3, [0, 4, 23, 2]), []), ((.aload_n 0, 1, []), []), ((.bipush 6, 2, []), []), ((.newarray .int, 2, [40]), []), ((.putfield 65, 3, [0, 4, 24, 2]), []), ((.aload_n 0, 1, []), []), ((.bipush 6, 2, []), []), ((.newarray .int, 2, [40]), []), ((.putfield 68, 3, [0, 4, 29, 2]), []), ((.aload_n 0, 1, []), []), ((.sipush 144, 3, []), []), ((.newarray .double, 2, [43]), []), ((.putfield 71, 3, [0, 4, 30, 2]), []), ((.aload_n 0, 1, []), []), ((.sipush 1440, 3, []), []), ((.newarray .double, 2, [43]), []), ((.putfield 74, 3, [0, 4, 31, 2]), []), ((.aload_n 0, 1, []), []), ((.sipush 1440, 3, []), []), ((.newarray .boolean, 2, [44]), []), ((.putfield 77, 3, [0, 4, 32, 2]), []), ((.aload_n 0, 1, []), []), ((.iconst 3, 1, []), []), ((.newarray .int, 2, [40]), []), ((.putfield 81, 3, [0, 4, 35, 2]), []), ((.aload_n 0, 1, []), []), ((.bipush 10, 2, []), []), ((.newarray .int, 2, [40]), []), ((.putfield 84, 3, [0, 4, 36, 2]), []), ((.aload_n 0, 1, []), []), ((.bipush 10, 2, []), []), ((.newarray .int, 2, [40]), []), ((.putfield 87, 3, [0, 4, 40, 2]), []), ((.aload_n 0, 1, []), []), ((.sipush 144, 3, []), []), ((.newarray .double, 2, [43]), []), ((.putfield 90, 3, [0, 4, 41, 2]), []), ((.aload_n 0, 1, []), []), ((.sipush 144, 3, []), []), ((.newarray .double, 2, [43]), []), ((.putfield 93, 3, [0, 4, 42, 2]), []), ((.aload_n 0, 1, []), []), ((.sipush 144, 3, []), []), ((.newarray .int, 2, [40]), []), ((.putfield 96, 3, [0, 4, 43, 2]), []), ((.aload_n 0, 1, []), []), ((.bipush 10, 2, []), []), ((.newarray .int, 2, [40]), []), ((.putfield 99, 3, [0, 4, 44, 2]), []), ((.aload_n 0, 1, []), []), ((.iconst 3, 1, []), []), ((.newarray .int, 2, [40]), []), ((.putfield 102, 3, [0, 4, 45, 2]), []), ((.aload_n 0, 1, []), []), ((.iconst 3, 1, []), []), ((.newarray .int, 2, [40]), []), ((.putfield 105, 3, [0, 4, 46, 2]), []), ((.iconst 0, 1, []), []), ((.istore_n 1, 1, []), []), ((.nop, 0, [0, 172294]), [])] [.ref a0, z1] [.ref s0, .ref s1] M Q := by
  unfold F_X3_init_0_p120 at h
  obtain ⟨hc, h⟩ := gd h
  refine (x_putf4 hc).mpr ?_
  exact sF_X3_init_0_p136 h hq
def F_X3_init_0_p105 (a0 : Nat)  (M : ev_M) : Option ev_M := (if 0 ≤ ((iI (5))).toInt ∧ ((iI (5))).toInt ≤ 100000 then F_X3_init_0_p120 a0 (nx M) a0 (wN M 40 (ev_ix (iI (5))) (ev_ix (iI (5)))) else none)
theorem sF_X3_init_0_p105 {a0 : Nat}  {z1 : Value} {M : ev_M} {Q : Nat → Value → ev_M → Prop} {r : ev_M} (h : F_X3_init_0_p105 a0  M = some r) (hq : Q 0 jk r) : XP ev_prog [((.aload_n 0, 1, []), []), ((.iconst 5, 1, []), []), ((.newarray .int, 2, [40]), []), ((.putfield 32, 3, [0, 4, 10, 2]), []), ((.aload_n 0, 1, []), []), ((.iconst 5, 1, []), []), ((.newarray .int, 2, [40]), []), ((.putfield 35, 3, [0, 4, 11, 2]), []), ((.aload_n 0, 1, []), []), ((.iconst 5, 1, []), []), ((.newarray .int, 2, [40]), []), ((.putfield 38, 3, [0, 4, 12, 2]), []), ((.aload_n 0, 1, []), []), ((.bipush 15, 2, []), []), ((.newarray .int, 2, [40]), []), ((.putfield 41, 3, [0, 4, 13, 2]), []), ((.aload_n 0, 1, []), []), ((.bipush 15, 2, []), []), ((.newarray .int, 2, [40]), []), ((.putfield 44, 3, [0, 4, 14, 2]), []), ((.aload_n 0, 1, []), []), ((.bipush 15, 2, []), []), ((.newarray .int, 2, [40]), []), ((.putfield 47, 3, [0, 4, 15, 2]), []), ((.aload_n 0, 1, []), []), ((.bipush 15, 2, []), []), ((.newarray .int, 2, [40]), []), ((.putfield 50, 3, [0, 4, 16, 2]), []), ((.aload_n 0, 1, []), []), ((.bipush 120, 2, []), []), ((.newarray .int, 2, [40]), []), ((.putfield 53, 3, [0, 4, 17, 2]), []), ((.aload_n 0, 1, []), []), ((.iconst 5, 1, []), []), ((.newarray .int, 2, [40]), []), ((.putfield 56, 3, [0, 4, 19, 2]), []), ((.aload_n 0, 1, []), []), ((.bipush 120, 2, []), []), ((.newarray .int, 2, [40]), []), ((.putfield 59, 3, [0, 4, 21, 2]), []), ((.aload_n 0, 1, []), []), ((.sipush 240, 3, []), []), ((.newarray .int, 2, [40]), []), ((.putfield 62, 3, [0, 4, 23, 2]), []), ((.aload_n 0, 1, []), []), ((.bipush 6, 2, []), []), ((.newarray .int, 2, [40]), []), ((.putfield 65, 3, [0, 4, 24, 2]), []), ((.aload_n 0, 1, []), []), ((.bipush 6, 2, []), []), ((.newarray .int, 2, [40]), []), ((.putfield 68, 3, [0, 4, 29, 2]), []), ((.aload_n 0, 1, []), []), ((.sipush 144, 3, []), []), ((.newarray .double, 2, [43]), []), ((.putfield 71, 3, [0, 4, 30, 2]), []), ((.aload_n 0, 1, []), []), ((.sipush 1440, 3, []), []), ((.newarray .double, 2, [43]), []), ((.putfield 74, 3, [0, 4, 31, 2]), []), ((.aload_n 0, 1, []), []), ((.sipush 1440, 3, []), []), ((.newarray .boolean, 2, [44]), []), ((.putfield 77, 3, [0, 4, 32, 2]), []), ((.aload_n 0, 1, []), []), ((.iconst 3, 1, []), []), ((.newarray .int, 2, [40]), []), ((.putfield 81, 3, [0, 4, 35, 2]), []), ((.aload_n 0, 1, []), []), ((.bipush 10, 2, []), []), ((.newarray .int, 2, [40]), []), ((.putfield 84, 3, [0, 4, 36, 2]), []), ((.aload_n 0, 1, []), []), ((.bipush 10, 2, []), []), ((.newarray .int, 2, [40]), []), ((.putfield 87, 3, [0, 4, 40, 2]), []), ((.aload_n 0, 1, []), []), ((.sipush 144, 3, []), []), ((.newarray .double, 2, [43]), []), ((.putfield 90, 3, [0, 4, 41, 2]), []), ((.aload_n 0, 1, []), []), ((.sipush 144, 3, []), []), ((.newarray .double, 2, [43]), []), ((.putfield 93, 3, [0, 4, 42, 2]), []), ((.aload_n 0, 1, []), []), ((.sipush 144, 3, []), []), ((.newarray .int, 2, [40]), []), ((.putfield 96, 3, [0, 4, 43, 2]), []), ((.aload_n 0, 1, []), []), ((.bipush 10, 2, []), []), ((.newarray .int, 2, [40]), []), ((.putfield 99, 3, [0, 4, 44, 2]), []), ((.aload_n 0, 1, []), []), ((.iconst 3, 1, []), []), ((.newarray .int, 2, [40]), []), ((.putfield 102, 3, [0, 4, 45, 2]), []), ((.aload_n 0, 1, []), []), ((.iconst 3, 1, []), []), ((.newarray .int, 2, [40]), []), ((.putfield 105, 3, [0, 4, 46, 2]), []), ((.iconst 0, 1, []), []), ((.istore_n 1, 1, []), []), ((.nop, 0, [0, 172294]), [])] [.ref a0, z1] [] M Q := by
  unfold F_X3_init_0_p105 at h
  refine x_aloadn0.mpr ?_
  refine x_iconst.mpr ?_
  obtain ⟨hc, h⟩ := gd h
  refine (x_newa hc).mpr ?_
  exact sF_X3_init_0_p120 h hq
def F_X3_init_0_p91 (a0 : Nat) (s0 : Nat) (s1 : Nat) (M : ev_M) : Option ev_M := (if ([2] : List Nat).contains (mK M s1) = true then F_X3_init_0_p105 a0  (wA M s1 9 s0) else none)
theorem sF_X3_init_0_p91 {a0 : Nat} {s0 : Nat} {s1 : Nat} {z1 : Value} {M : ev_M} {Q : Nat → Value → ev_M → Prop} {r : ev_M} (h : F_X3_init_0_p91 a0 s0 s1 M = some r) (hq : Q 0 jk r) : XP ev_prog [((.putfield 29, 3, [0, 4, 9, 2]), []), ((.aload_n 0, 1, []), []), ((.iconst 5, 1, []), []), ((.newarray .int, 2, [40]), []), ((.putfield 32, 3, [0, 4, 10, 2]), []), ((.aload_n 0, 1, []), []), ((.iconst 5, 1, []), []), ((.newarray .int, 2, [40]), []), ((.putfield 35, 3, [0, 4, 11, 2]), []), ((.aload_n 0, 1, []), []), ((.iconst 5, 1, []), []), ((.newarray .int, 2, [40]), []), ((.putfield 38, 3, [0, 4, 12, 2]), []), ((.aload_n 0, 1, []), []), ((.bipush 15, 2, []), []), ((.newarray .int, 2, [40]), []), ((.putfield 41, 3, [0, 4, 13, 2]), []), ((.aload_n 0, 1, []), []), ((.bipush 15, 2, []), []), ((.newarray .int, 2, [40]), []), ((.putfield 44, 3, [0, 4, 14, 2]), []), ((.aload_n 0, 1, []), []), ((.bipush 15, 2, []), []), ((.newarray .int, 2, [40]), []), ((.putfield 47, 3, [0, 4, 15, 2]), []), ((.aload_n 0, 1, []), []), ((.bipush 15, 2, []), []), ((.newarray .int, 2, [40]), []), ((.putfield 50, 3, [0, 4, 16, 2]), []), ((.aload_n 0, 1, []), []), ((.bipush 120, 2, []), []), ((.newarray .int, 2, [40]), []), ((.putfield 53, 3, [0, 4, 17, 2]), []), ((.aload_n 0, 1, []), []), ((.iconst 5, 1, []), []), ((.newarray .int, 2, [40]), []), ((.putfield 56, 3, [0, 4, 19, 2]), []), ((.aload_n 0, 1, []), []), ((.bipush 120, 2, []), []), ((.newarray .int, 2, [40]), []), ((.putfield 59, 3, [0, 4, 21, 2]), []), ((.aload_n 0, 1, []), []), ((.sipush 240, 3, []), []), ((.newarray .int, 2, [40]), []), ((.putfield 62, 3, [0, 4, 23, 2]), []), ((.aload_n 0, 1, []), []), ((.bipush 6, 2, []), []), ((.newarray .int, 2, [40]), []), ((.putfield 65, 3, [0, 4, 24, 2]), []), ((.aload_n 0, 1, []), []), ((.bipush 6, 2, []), []), ((.newarray .int, 2, [40]), []), ((.putfield 68, 3, [0, 4, 29, 2]), []), ((.aload_n 0, 1, []), []), ((.sipush 144, 3, []), []), ((.newarray .double, 2, [43]), []), ((.putfield 71, 3, [0, 4, 30, 2]), []), ((.aload_n 0, 1, []), []), ((.sipush 1440, 3, []), []), ((.newarray .double, 2, [43]), []), ((.putfield 74, 3, [0, 4, 31, 2]), []), ((.aload_n 0, 1, []), []), ((.sipush 1440, 3, []), []), ((.newarray .boolean, 2, [44]), []), ((.putfield 77, 3, [0, 4, 32, 2]), []), ((.aload_n 0, 1, []), []), ((.iconst 3, 1, []), []), ((.newarray .int, 2, [40]), []), ((.putfield 81, 3, [0, 4, 35, 2]), []), ((.aload_n 0, 1, []), []), ((.bipush 10, 2, []), []), ((.newarray .int, 2, [40]), []), ((.putfield 84, 3, [0, 4, 36, 2]), []), ((.aload_n 0, 1, []), []), ((.bipush 10, 2, []), []), ((.newarray .int, 2, [40]), []), ((.putfield 87, 3, [0, 4, 40, 2]), []), ((.aload_n 0, 1, []), []), ((.sipush 144, 3, []), []), ((.newarray .double, 2, [43]), []), ((.putfield 90, 3, [0, 4, 41, 2]), []), ((.aload_n 0, 1, []), []), ((.sipush 144, 3, []), []), ((.newarray .double, 2, [43]), []), ((.putfield 93, 3, [0, 4, 42, 2]), []), ((.aload_n 0, 1, []), []), ((.sipush 144, 3, []), []), ((.newarray .int, 2, [40]), []), ((.putfield 96, 3, [0, 4, 43, 2]), []), ((.aload_n 0, 1, []), []), ((.bipush 10, 2, []), []), ((.newarray .int, 2, [40]), []), ((.putfield 99, 3, [0, 4, 44, 2]), []), ((.aload_n 0, 1, []), []), ((.iconst 3, 1, []), []), ((.newarray .int, 2, [40]), []), ((.putfield 102, 3, [0, 4, 45, 2]), []), ((.aload_n 0, 1, []), []), ((.iconst 3, 1, []), []), ((.newarray .int, 2, [40]), []), ((.putfield 105, 3, [0, 4, 46, 2]), []), ((.iconst 0, 1, []), []), ((.istore_n 1, 1, []), []), ((.nop, 0, [0, 172294]), [])] [.ref a0, z1] [.ref s0, .ref s1] M Q := by
  unfold F_X3_init_0_p91 at h
  obtain ⟨hc, h⟩ := gd h
  refine (x_putf4 hc).mpr ?_
  exact sF_X3_init_0_p105 h hq
def F_X3_init_0_p78 (a0 : Nat)  (M : ev_M) : Option ev_M := (if 0 ≤ ((iI (5))).toInt ∧ ((iI (5))).toInt ≤ 100000 then F_X3_init_0_p91 a0 (nx M) a0 (wN M 40 (ev_ix (iI (5))) (ev_ix (iI (5)))) else none)
theorem sF_X3_init_0_p78 {a0 : Nat}  {z1 : Value} {M : ev_M} {Q : Nat → Value → ev_M → Prop} {r : ev_M} (h : F_X3_init_0_p78 a0  M = some r) (hq : Q 0 jk r) : XP ev_prog [((.aload_n 0, 1, []), []), ((.iconst 5, 1, []), []), ((.newarray .int, 2, [40]), []), ((.putfield 29, 3, [0, 4, 9, 2]), []), ((.aload_n 0, 1, []), []), ((.iconst 5, 1, []), []), ((.newarray .int, 2, [40]), []), ((.putfield 32, 3, [0, 4, 10, 2]), []), ((.aload_n 0, 1, []), []), ((.iconst 5, 1, []), []), ((.newarray .int, 2, [40]), []), ((.putfield 35, 3, [0, 4, 11, 2]), []), ((.aload_n 0, 1, []), []), ((.iconst 5, 1, []), []), ((.newarray .int, 2, [40]), []), ((.putfield 38, 3, [0, 4, 12, 2]), []), ((.aload_n 0, 1, []), []), ((.bipush 15, 2, []), []), ((.newarray .int, 2, [40]), []), ((.putfield 41, 3, [0, 4, 13, 2]), []), ((.aload_n 0, 1, []), []), ((.bipush 15, 2, []), []), ((.newarray .int, 2, [40]), []), ((.putfield 44, 3, [0, 4, 14, 2]), []), ((.aload_n 0, 1, []), []), ((.bipush 15, 2, []), []), ((.newarray .int, 2, [40]), []), ((.putfield 47, 3, [0, 4, 15, 2]), []), ((.aload_n 0, 1, []), []), ((.bipush 15, 2, []), []), ((.newarray .int, 2, [40]), []), ((.putfield 50, 3, [0, 4, 16, 2]), []), ((.aload_n 0, 1, []), []), ((.bipush 120, 2, []), []), ((.newarray .int, 2, [40]), []), ((.putfield 53, 3, [0, 4, 17, 2]), []), ((.aload_n 0, 1, []), []), ((.iconst 5, 1, []), []), ((.newarray .int, 2, [40]), []), ((.putfield 56, 3, [0, 4, 19, 2]), []), ((.aload_n 0, 1, []), []), ((.bipush 120, 2, []), []), ((.newarray .int, 2, [40]), []), ((.putfield 59, 3, [0, 4, 21, 2]), []), ((.aload_n 0, 1, []), []), ((.sipush 240, 3, []), []), ((.newarray .int, 2, [40]), []), ((.putfield 62, 3, [0, 4, 23, 2]), []), ((.aload_n 0, 1, []), []), ((.bipush 6, 2, []), []), ((.newarray .int, 2, [40]), []), ((.putfield 65, 3, [0, 4, 24, 2]), []), ((.aload_n 0, 1, []), []), ((.bipush 6, 2, []), []), ((.newarray .int, 2, [40]), []), ((.putfield 68, 3, [0, 4, 29, 2]), []), ((.aload_n 0, 1, []), []), ((.sipush 144, 3, []), []), ((.newarray .double, 2, [43]), []), ((.putfield 71, 3, [0, 4, 30, 2]), []), ((.aload_n 0, 1, []), []), ((.sipush 1440, 3, []), []), ((.newarray .double, 2, [43]), []), ((.putfield 74, 3, [0, 4, 31, 2]), []), ((.aload_n 0, 1, []), []), ((.sipush 1440, 3, []), []), ((.newarray .boolean, 2, [44]), []), ((.putfield 77, 3, [0, 4, 32, 2]), []), ((.aload_n 0, 1, []), []), ((.iconst 3, 1, []), []), ((.newarray .int, 2, [40]), []), ((.putfield 81, 3, [0, 4, 35, 2]), []), ((.aload_n 0, 1, []), []), ((.bipush 10, 2, []), []), ((.newarray .int, 2, [40]), []), ((.putfield 84, 3, [0, 4, 36, 2]), []), ((.aload_n 0, 1, []), []), ((.bipush 10, 2, []), []), ((.newarray .int, 2, [40]), []), ((.putfield 87, 3, [0, 4, 40, 2]), []), ((.aload_n 0, 1, []), []), ((.sipush 144, 3, []), []), ((.newarray .double, 2, [43]), []), ((.putfield 90, 3, [0, 4, 41, 2]), []), ((.aload_n 0, 1, []), []), ((.sipush 144, 3, []), []), ((.newarray .double, 2, [43]), []), ((.putfield 93, 3, [0, 4, 42, 2]), []), ((.aload_n 0, 1, []), []), ((.sipush 144, 3, []), []), ((.newarray .int, 2, [40]), []), ((.putfield 96, 3, [0, 4, 43, 2]), []), ((.aload_n 0, 1, []), []), ((.bipush 10, 2, []), []), ((.newarray .int, 2, [40]), []), ((.putfield 99, 3, [0, 4, 44, 2]), []), ((.aload_n 0, 1, []), []), ((.iconst 3, 1, []), []), ((.newarray .int, 2, [40]), []), ((.putfield 102, 3, [0, 4, 45, 2]), []), ((.aload_n 0, 1, []), []), ((.iconst 3, 1, []), []), ((.newarray .int, 2, [40]), []), ((.putfield 105, 3, [0, 4, 46, 2]), []), ((.iconst 0, 1, []), []), ((.istore_n 1, 1, []), []), ((.nop, 0, [0, 172294]), [])] [.ref a0, z1] [] M Q := by
  unfold F_X3_init_0_p78 at h
  refine x_aloadn0.mpr ?_
  refine x_iconst.mpr ?_
  obtain ⟨hc, h⟩ := gd h
  refine (x_newa hc).mpr ?_
  exact sF_X3_init_0_p91 h hq
def F_X3_init_0_p66 (a0 : Nat) (s0 : Nat) (s1 : Nat) (M : ev_M) : Option ev_M := (if ([2] : List Nat).contains (mK M s1) = true then F_X3_init_0_p78 a0  (wA M s1 8 s0) else none)
theorem sF_X3_init_0_p66 {a0 : Nat} {s0 : Nat} {s1 : Nat} {z1 : Value} {M : ev_M} {Q : Nat → Value → ev_M → Prop} {r : ev_M} (h : F_X3_init_0_p66 a0 s0 s1 M = some r) (hq : Q 0 jk r) : XP ev_prog [((.putfield 26, 3, [0, 4, 8, 2]), []), ((.aload_n 0, 1, []), []), ((.iconst 5, 1, []), []), ((.newarray .int, 2, [40]), []), ((.putfield 29, 3, [0, 4, 9, 2]), []), ((.aload_n 0, 1, []), []), ((.iconst 5, 1, []), []), ((.newarray .int, 2, [40]), []), ((.putfield 32, 3, [0, 4, 10, 2]), []), ((.aload_n 0, 1, []), []), ((.iconst 5, 1, []), []), ((.newarray .int, 2, [40]), []), ((.putfield 35, 3, [0, 4, 11, 2]), []), ((.aload_n 0, 1, []), []), ((.iconst 5, 1, []), []), ((.newarray .int, 2, [40]), []), ((.putfield 38, 3, [0, 4, 12, 2]), []), ((.aload_n 0, 1, []), []), ((.bipush 15, 2, []), []), ((.newarray .int, 2, [40]), []), ((.putfield 41, 3, [0, 4, 13, 2]), []), ((.aload_n 0, 1, []), []), ((.bipush 15, 2, []), []), ((.newarray .int, 2, [40]), []), ((.putfield 44, 3, [0, 4, 14, 2]), []), ((.aload_n 0, 1, []), []), ((.bipush 15, 2, []), []), ((.newarray .int, 2, [40]), []), ((.putfield 47, 3, [0, 4, 15, 2]), []), ((.aload_n 0, 1, []), []), ((.bipush 15, 2, []), []), ((.newarray .int, 2, [40]), []), ((.putfield 50, 3, [0, 4, 16, 2]), []), ((.aload_n 0, 1, []), []), ((.bipush 120, 2, []), []), ((.newarray .int, 2, [40]), []), ((.putfield 53, 3, [0, 4, 17, 2]), []), ((.aload_n 0, 1, []), []), ((.iconst 5, 1, []), []), ((.newarray .int, 2, [40]), []), ((.putfield 56, 3, [0, 4, 19, 2]), []), ((.aload_n 0, 1, []), []), ((.bipush 120, 2, []), []), ((.newarray .int, 2, [40]), []), ((.putfield 59, 3, [0, 4, 21, 2]), []), ((.aload_n 0, 1, []), []), ((.sipush 240, 3, []), []), ((.newarray .int, 2, [40]), []), ((.putfield 62, 3, [0, 4, 23, 2]), []), ((.aload_n 0, 1, []), []), ((.bipush 6, 2, []), []), ((.newarray .int, 2, [40]), []), ((.putfield 65, 3, [0, 4, 24, 2]), []), ((.aload_n 0, 1, []), []), ((.bipush 6, 2, []), []), ((.newarray .int, 2, [40]), []), ((.putfield 68, 3, [0, 4, 29, 2]), []), ((.aload_n 0, 1, []), []), ((.sipush 144, 3, []), []), ((.newarray .double, 2, [43]), []), ((.putfield 71, 3, [0, 4, 30, 2]), []), ((.aload_n 0, 1, []), []), ((.sipush 1440, 3, []), []), ((.newarray .double, 2, [43]), []), ((.putfield 74, 3, [0, 4, 31, 2]), []), ((.aload_n 0, 1, []), []), ((.sipush 1440, 3, []), []), ((.newarray .boolean, 2, [44]), []), ((.putfield 77, 3, [0, 4, 32, 2]), []), ((.aload_n 0, 1, []), []), ((.iconst 3, 1, []), []), ((.newarray .int, 2, [40]), []), ((.putfield 81, 3, [0, 4, 35, 2]), []), ((.aload_n 0, 1, []), []), ((.bipush 10, 2, []), []), ((.newarray .int, 2, [40]), []), ((.putfield 84, 3, [0, 4, 36, 2]), []), ((.aload_n 0, 1, []), []), ((.bipush 10, 2, []), []), ((.newarray .int, 2, [40]), []), ((.putfield 87, 3, [0, 4, 40, 2]), []), ((.aload_n 0, 1, []), []), ((.sipush 144, 3, []), []), ((.newarray .double, 2, [43]), []), ((.putfield 90, 3, [0, 4, 41, 2]), []), ((.aload_n 0, 1, []), []), ((.sipush 144, 3, []), []), ((.newarray .double, 2, [43]), []), ((.putfield 93, 3, [0, 4, 42, 2]), []), ((.aload_n 0, 1, []), []), ((.sipush 144, 3, []), []), ((.newarray .int, 2, [40]), []), ((.putfield 96, 3, [0, 4, 43, 2]), []), ((.aload_n 0, 1, []), []), ((.bipush 10, 2, []), []), ((.newarray .int, 2, [40]), []), ((.putfield 99, 3, [0, 4, 44, 2]), []), ((.aload_n 0, 1, []), []), ((.iconst 3, 1, []), []), ((.newarray .int, 2, [40]), []), ((.putfield 102, 3, [0, 4, 45, 2]), []), ((.aload_n 0, 1, []), []), ((.iconst 3, 1, []), []), ((.newarray .int, 2, [40]), []), ((.putfield 105, 3, [0, 4, 46, 2]), []), ((.iconst 0, 1, []), []), ((.istore_n 1, 1, []), []), ((.nop, 0, [0, 172294]), [])] [.ref a0, z1] [.ref s0, .ref s1] M Q := by
  unfold F_X3_init_0_p66 at h
  obtain ⟨hc, h⟩ := gd h
  refine (x_putf4 hc).mpr ?_
  exact sF_X3_init_0_p78 h hq
def F_X3_init_0_p55 (a0 : Nat)  (M : ev_M) : Option ev_M := (if 0 ≤ ((iI (5))).toInt ∧ ((iI (5))).toInt ≤ 100000 then F_X3_init_0_p66 a0 (nx M) a0 (wN M 40 (ev_ix (iI (5))) (ev_ix (iI (5)))) else none)
theorem sF_X3_init_0_p55 {a0 : Nat}  {z1 : Value} {M : ev_M} {Q : Nat → Value → ev_M → Prop} {r : ev_M} (h : F_X3_init_0_p55 a0  M = some r) (hq : Q 0 jk r) : XP ev_prog [((.aload_n 0, 1, []), []), ((.iconst 5, 1, []), []), ((.newarray .int, 2, [40]), []), ((.putfield 26, 3, [0, 4, 8, 2]), []), ((.aload_n 0, 1, []), []), ((.iconst 5, 1, []), []), ((.newarray .int, 2, [40]), []), ((.putfield 29, 3, [0, 4, 9, 2]), []), ((.aload_n 0, 1, []), []), ((.iconst 5, 1, []), []), ((.newarray .int, 2, [40]), []), ((.putfield 32, 3, [0, 4, 10, 2]), []), ((.aload_n 0, 1, []), []), ((.iconst 5, 1, []), []), ((.newarray .int, 2, [40]), []), ((.putfield 35, 3, [0, 4, 11, 2]), []), ((.aload_n 0, 1, []), []), ((.iconst 5, 1, []), []), ((.newarray .int, 2, [40]), []), ((.putfield 38, 3, [0, 4, 12, 2]), []), ((.aload_n 0, 1, []), []), ((.bipush 15, 2, []), []), ((.newarray .int, 2, [40]), []), ((.putfield 41, 3, [0, 4, 13, 2]), []), ((.aload_n 0, 1, []), []), ((.bipush 15, 2, []), []), ((.newarray .int, 2, [40]), []), ((.putfield 44, 3, [0, 4, 14, 2]), []), ((.aload_n 0, 1, []), []), ((.bipush 15, 2, []), []), ((.newarray .int, 2, [40]), []), ((.putfield 47, 3, [0, 4, 15, 2]), []), ((.aload_n 0, 1, []), []), ((.bipush 15, 2, []), []), ((.newarray .int, 2, [40]), []), ((.putfield 50, 3, [0, 4, 16, 2]), []), ((.aload_n 0, 1, []), []), ((.bipush 120, 2, []), []), ((.newarray .int, 2, [40]), []), ((.putfield 53, 3, [0, 4, 17, 2]), []), ((.aload_n 0, 1, []), []), ((.iconst 5, 1, []), []), ((.newarray .int, 2, [40]), []), ((.putfield 56, 3, [0, 4, 19, 2]), []), ((.aload_n 0, 1, []), []), ((.bipush 120, 2, []), []), ((.newarray .int, 2, [40]), []), ((.putfield 59, 3, [0, 4, 21, 2]), []), ((.aload_n 0, 1, []), []), ((.sipush 240, 3, []), []), ((.newarray .int, 2, [40]), []), ((.putfield 62, 3, [0, 4, 23, 2]), []), ((.aload_n 0, 1, []), []), ((.bipush 6, 2, []), []), ((.newarray .int, 2, [40]), []), ((.putfield 65, 3, [0, 4, 24, 2]), []), ((.aload_n 0, 1, []), []), ((.bipush 6, 2, []), []), ((.newarray .int, 2, [40]), []), ((.putfield 68, 3, [0, 4, 29, 2]), []), ((.aload_n 0, 1, []), []), ((.sipush 144, 3, []), []), ((.newarray .double, 2, [43]), []), ((.putfield 71, 3, [0, 4, 30, 2]), []), ((.aload_n 0, 1, []), []), ((.sipush 1440, 3, []), []), ((.newarray .double, 2, [43]), []), ((.putfield 74, 3, [0, 4, 31, 2]), []), ((.aload_n 0, 1, []), []), ((.sipush 1440, 3, []), []), ((.newarray .boolean, 2, [44]), []), ((.putfield 77, 3, [0, 4, 32, 2]), []), ((.aload_n 0, 1, []), []), ((.iconst 3, 1, []), []), ((.newarray .int, 2, [40]), []), ((.putfield 81, 3, [0, 4, 35, 2]), []), ((.aload_n 0, 1, []), []), ((.bipush 10, 2, []), []), ((.newarray .int, 2, [40]), []), ((.putfield 84, 3, [0, 4, 36, 2]), []), ((.aload_n 0, 1, []), []), ((.bipush 10, 2, []), []), ((.newarray .int, 2, [40]), []), ((.putfield 87, 3, [0, 4, 40, 2]), []), ((.aload_n 0, 1, []), []), ((.sipush 144, 3, []), []), ((.newarray .double, 2, [43]), []), ((.putfield 90, 3, [0, 4, 41, 2]), []), ((.aload_n 0, 1, []), []), ((.sipush 144, 3, []), []), ((.newarray .double, 2, [43]), []), ((.putfield 93, 3, [0, 4, 42, 2]), []), ((.aload_n 0, 1, []), []), ((.sipush 144, 3, []), []), ((.newarray .int, 2, [40]), []), ((.putfield 96, 3, [0, 4, 43, 2]), []), ((.aload_n 0, 1, []), []), ((.bipush 10, 2, []), []), ((.newarray .int, 2, [40]), []), ((.putfield 99, 3, [0, 4, 44, 2]), []), ((.aload_n 0, 1, []), []), ((.iconst 3, 1, []), []), ((.newarray .int, 2, [40]), []), ((.putfield 102, 3, [0, 4, 45, 2]), []), ((.aload_n 0, 1, []), []), ((.iconst 3, 1, []), []), ((.newarray .int, 2, [40]), []), ((.putfield 105, 3, [0, 4, 46, 2]), []), ((.iconst 0, 1, []), []), ((.istore_n 1, 1, []), []), ((.nop, 0, [0, 172294]), [])] [.ref a0, z1] [] M Q := by
  unfold F_X3_init_0_p55 at h
  refine x_aloadn0.mpr ?_
  refine x_iconst.mpr ?_
  obtain ⟨hc, h⟩ := gd h
  refine (x_newa hc).mpr ?_
  exact sF_X3_init_0_p66 h hq
def F_X3_init_0_p45 (a0 : Nat) (s0 : Nat) (s1 : Nat) (M : ev_M) : Option ev_M := (if ([2] : List Nat).contains (mK M s1) = true then F_X3_init_0_p55 a0  (wA M s1 5 s0) else none)
theorem sF_X3_init_0_p45 {a0 : Nat} {s0 : Nat} {s1 : Nat} {z1 : Value} {M : ev_M} {Q : Nat → Value → ev_M → Prop} {r : ev_M} (h : F_X3_init_0_p45 a0 s0 s1 M = some r) (hq : Q 0 jk r) : XP ev_prog [((.putfield 23, 3, [0, 4, 5, 2]), []), ((.aload_n 0, 1, []), []), ((.iconst 5, 1, []), []), ((.newarray .int, 2, [40]), []), ((.putfield 26, 3, [0, 4, 8, 2]), []), ((.aload_n 0, 1, []), []), ((.iconst 5, 1, []), []), ((.newarray .int, 2, [40]), []), ((.putfield 29, 3, [0, 4, 9, 2]), []), ((.aload_n 0, 1, []), []), ((.iconst 5, 1, []), []), ((.newarray .int, 2, [40]), []), ((.putfield 32, 3, [0, 4, 10, 2]), []), ((.aload_n 0, 1, []), []), ((.iconst 5, 1, []), []), ((.newarray .int, 2, [40]), []), ((.putfield 35, 3, [0, 4, 11, 2]), []), ((.aload_n 0, 1, []), []), ((.iconst 5, 1, []), []), ((.newarray .int, 2, [40]), []), ((.putfield 38, 3, [0, 4, 12, 2]), []), ((.aload_n 0, 1, []), []), ((.bipush 15, 2, []), []), ((.newarray .int, 2, [40]), []), ((.putfield 41, 3, [0, 4, 13, 2]), []), ((.aload_n 0, 1, []), []), ((.bipush 15, 2, []), []), ((.newarray .int, 2, [40]), []), ((.putfield 44, 3, [0, 4, 14, 2]), []), ((.aload_n 0, 1, []), []), ((.bipush 15, 2, []), []), ((.newarray .int, 2, [40]), []), ((.putfield 47, 3, [0, 4, 15, 2]), []), ((.aload_n 0, 1, []), []), ((.bipush 15, 2, []), []), ((.newarray .int, 2, [40]), []), ((.putfield 50, 3, [0, 4, 16, 2]), []), ((.aload_n 0, 1, []), []), ((.bipush 120, 2, []), []), ((.newarray .int, 2, [40]), []), ((.putfield 53, 3, [0, 4, 17, 2]), []), ((.aload_n 0, 1, []), []), ((.iconst 5, 1, []), []), ((.newarray .int, 2, [40]), []), ((.putfield 56, 3, [0, 4, 19, 2]), []), ((.aload_n 0, 1, []), []), ((.bipush 120, 2, []), []), ((.newarray .int, 2, [40]), []), ((.putfield 59, 3, [0, 4, 21, 2]), []), ((.aload_n 0, 1, []), []), ((.sipush 240, 3, []), []), ((.newarray .int, 2, [40]), []), ((.putfield 62, 3, [0, 4, 23, 2]), []), ((.aload_n 0, 1, []), []), ((.bipush 6, 2, []), []), ((.newarray .int, 2, [40]), []), ((.putfield 65, 3, [0, 4, 24, 2]), []), ((.aload_n 0, 1, []), []), ((.bipush 6, 2, []), []), ((.newarray .int, 2, [40]), []), ((.putfield 68, 3, [0, 4, 29, 2]), []), ((.aload_n 0, 1, []), []), ((.sipush 144, 3, []), []), ((.newarray .double, 2, [43]), []), ((.putfield 71, 3, [0, 4, 30, 2]), []), ((.aload_n 0, 1, []), []), ((.sipush 1440, 3, []), []), ((.newarray .double, 2, [43]), []), ((.putfield 74, 3, [0, 4, 31, 2]), []), ((.aload_n 0, 1, []), []), ((.sipush 1440, 3, []), []), ((.newarray .boolean, 2, [44]), []), ((.putfield 77, 3, [0, 4, 32, 2]), []), ((.aload_n 0, 1, []), []), ((.iconst 3, 1, []), []), ((.newarray .int, 2, [40]), []), ((.putfield 81, 3, [0, 4, 35, 2]), []), ((.aload_n 0, 1, []), []), ((.bipush 10, 2, []), []), ((.newarray .int, 2, [40]), []), ((.putfield 84, 3, [0, 4, 36, 2]), []), ((.aload_n 0, 1, []), []), ((.bipush 10, 2, []), []), ((.newarray .int, 2, [40]), []), ((.putfield 87, 3, [0, 4, 40, 2]), []), ((.aload_n 0, 1, []), []), ((.sipush 144, 3, []), []), ((.newarray .double, 2, [43]), []), ((.putfield 90, 3, [0, 4, 41, 2]), []), ((.aload_n 0, 1, []), []), ((.sipush 144, 3, []), []), ((.newarray .double, 2, [43]), []), ((.putfield 93, 3, [0, 4, 42, 2]), []), ((.aload_n 0, 1, []), []), ((.sipush 144, 3, []), []), ((.newarray .int, 2, [40]), []), ((.putfield 96, 3, [0, 4, 43, 2]), []), ((.aload_n 0, 1, []), []), ((.bipush 10, 2, []), []), ((.newarray .int, 2, [40]), []), ((.putfield 99, 3, [0, 4, 44, 2]), []), ((.aload_n 0, 1, []), []), ((.iconst 3, 1, []), []), ((.newarray .int, 2, [40]), []), ((.putfield 102, 3, [0, 4, 45, 2]), []), ((.aload_n 0, 1, []), []), ((.iconst 3, 1, []), []), ((.newarray .int, 2, [40]), []), ((.putfield 105, 3, [0, 4, 46, 2]), []), ((.iconst 0, 1, []), []), ((.istore_n 1, 1, []), []), ((.nop, 0, [0, 172294]), [])] [.ref a0, z1] [.ref s0, .ref s1] M Q := by
  unfold F_X3_init_0_p45 at h
  obtain ⟨hc, h⟩ := gd h
  refine (x_putf4 hc).mpr ?_
  exact sF_X3_init_0_p55 h hq
def F_X3_init_0_p36 (a0 : Nat)  (M : ev_M) : Option ev_M := (if 0 ≤ ((iI (24))).toInt ∧ ((iI (24))).toInt ≤ 100000 then F_X3_init_0_p45 a0 (nx M) a0 (wN M 43 (ev_ix (iI (24))) (ev_ix (iI (24)))) else none)
theorem sF_X3_init_0_p36 {a0 : Nat}  {z1 : Value} {M : ev_M} {Q : Nat → Value → ev_M → Prop} {r : ev_M} (h : F_X3_init_0_p36 a0  M = some r) (hq : Q 0 jk r) : XP ev_prog [((.aload_n 0, 1, []), []), ((.bipush 24, 2, []), []), ((.newarray .double, 2, [43]), []), ((.putfield 23, 3, [0, 4, 5, 2]), []), ((.aload_n 0, 1, []), []), ((.iconst 5, 1, []), []), ((.newarray .int, 2, [40]), []), ((.putfield 26, 3, [0, 4, 8, 2]), []), ((.aload_n 0, 1, []), []), ((.iconst 5, 1, []), []), ((.newarray .int, 2, [40]), []), ((.putfield 29, 3, [0, 4, 9, 2]), []), ((.aload_n 0, 1, []), []), ((.iconst 5, 1, []), []), ((.newarray .int, 2, [40]), []), ((.putfield 32, 3, [0, 4, 10, 2]), []), ((.aload_n 0, 1, []), []), ((.iconst 5, 1, []), []), ((.newarray .int, 2, [40]), []), ((.putfield 35, 3, [0, 4, 11, 2]), []), ((.aload_n 0, 1, []), []), ((.iconst 5, 1, []), []), ((.newarray .int, 2, [40]), []), ((.putfield 38, 3, [0, 4, 12, 2]), []), ((.aload_n 0, 1, []), []), ((.bipush 15, 2, []), []), ((.newarray .int, 2, [40]), []), ((.putfield 41, 3, [0, 4, 13, 2]), []), ((.aload_n 0, 1, []), []), ((.bipush 15, 2, []), []), ((.newarray .int, 2, [40]), []), ((.putfield 44, 3, [0, 4, 14, 2]), []), ((.aload_n 0, 1, []), []), ((.bipush 15, 2, []), []), ((.newarray .int, 2, [40]), []), ((.putfield 47, 3, [0, 4, 15, 2]), []), ((.aload_n 0, 1, []), []), ((.bipush 15, 2, []), []), ((.newarray .int, 2, [40]), []), ((.putfield 50, 3, [0, 4, 16, 2]), []), ((.aload_n 0, 1, []), []), ((.bipush 120, 2, []), []), ((.newarray .int, 2, [40]), []), ((.putfield 53, 3, [0, 4, 17, 2]), []), ((.aload_n 0, 1, []), []), ((.iconst 5, 1, []), []), ((.newarray .int, 2, [40]), []), ((.putfield 56, 3, [0, 4, 19, 2]), []), ((.aload_n 0, 1, []), []), ((.bipush 120, 2, []), []), ((.newarray .int, 2, [40]), []), ((.putfield 59, 3, [0, 4, 21, 2]), []), ((.aload_n 0, 1, []), []), ((.sipush 240, 3, []), []), ((.newarray .int, 2, [40]), []), ((.putfield 62, 3, [0, 4, 23, 2]), []), ((.aload_n 0, 1, []), []), ((.bipush 6, 2, []), []), ((.newarray .int, 2, [40]), []), ((.putfield 65, 3, [0, 4, 24, 2]), []), ((.aload_n 0, 1, []), []), ((.bipush 6, 2, []), []), ((.newarray .int, 2, [40]), []), ((.putfield 68, 3, [0, 4, 29, 2]), []), ((.aload_n 0, 1, []), []), ((.sipush 144, 3, []), []), ((.newarray .double, 2, [43]), []), ((.putfield 71, 3, [0, 4, 30, 2]), []), ((.aload_n 0, 1, []), []), ((.sipush 1440, 3, []), []), ((.newarray .double, 2, [43]), []), ((.putfield 74, 3, [0, 4, 31, 2]), []), ((.aload_n 0, 1, []), []), ((.sipush 1440, 3, []), []), ((.newarray .boolean, 2, [44]), []), ((.putfield 77, 3, [0, 4, 32, 2]), []), ((.aload_n 0, 1, []), []), ((.iconst 3, 1, []), []), ((.newarray .int, 2, [40]), []), ((.putfield 81, 3, [0, 4, 35, 2]), []), ((.aload_n 0, 1, []), []), ((.bipush 10, 2, []), []), ((.newarray .int, 2, [40]), []), ((.putfield 84, 3, [0, 4, 36, 2]), []), ((.aload_n 0, 1, []), []), ((.bipush 10, 2, []), []), ((.newarray .int, 2, [40]), []), ((.putfield 87, 3, [0, 4, 40, 2]), []), ((.aload_n 0, 1, []), []), ((.sipush 144, 3, []), []), ((.newarray .double, 2, [43]), []), ((.putfield 90, 3, [0, 4, 41, 2]), []), ((.aload_n 0, 1, []), []), ((.sipush 144, 3, []), []), ((.newarray .double, 2, [43]), []), ((.putfield 93, 3, [0, 4, 42, 2]), []), ((.aload_n 0, 1, []), []), ((.sipush 144, 3, []), []), ((.newarray .int, 2, [40]), []), ((.putfield 96, 3, [0, 4, 43, 2]), []), ((.aload_n 0, 1, []), []), ((.bipush 10, 2, []), []), ((.newarray .int, 2, [40]), []), ((.putfield 99, 3, [0, 4, 44, 2]), []), ((.aload_n 0, 1, []), []), ((.iconst 3, 1, []), []), ((.newarray .int, 2, [40]), []), ((.putfield 102, 3, [0, 4, 45, 2]), []), ((.aload_n 0, 1, []), []), ((.iconst 3, 1, []), []), ((.newarray .int, 2, [40]), []), ((.putfield 105, 3, [0, 4, 46, 2]), []), ((.iconst 0, 1, []), []), ((.istore_n 1, 1, []), []), ((.nop, 0, [0, 172294]), [])] [.ref a0, z1] [] M Q := by
  unfold F_X3_init_0_p36 at h
  refine x_aloadn0.mpr ?_
  refine (x_bipush (by decide)).mpr ?_
  obtain ⟨hc, h⟩ := gd h
  refine (x_newa hc).mpr ?_
  exact sF_X3_init_0_p45 h hq
def F_X3_init_0_p28 (a0 : Nat) (s0 : Nat) (s1 : Nat) (M : ev_M) : Option ev_M := (if ([2] : List Nat).contains (mK M s1) = true then F_X3_init_0_p36 a0  (wA M s1 3 s0) else none)
theorem sF_X3_init_0_p28 {a0 : Nat} {s0 : Nat} {s1 : Nat} {z1 : Value} {M : ev_M} {Q : Nat → Value → ev_M → Prop} {r : ev_M} (h : F_X3_init_0_p28 a0 s0 s1 M = some r) (hq : Q 0 jk r) : XP ev_prog [((.putfield 20, 3, [0, 4, 3, 2]), []), ((.aload_n 0, 1, []), []), ((.bipush 24, 2, []), []), ((.newarray .double, 2, [43]), []), ((.putfield 23, 3, [0, 4, 5, 2]), []), ((.aload_n 0, 1, []), []), ((.iconst 5, 1, []), []), ((.newarray .int, 2, [40]), []), ((.putfield 26, 3, [0, 4, 8, 2]), []), ((.aload_n 0, 1, []), []), ((.iconst 5, 1, []), []), ((.newarray .int, 2, [40]), []), ((.putfield 29, 3, [0, 4, 9, 2]), []), ((.aload_n 0, 1, []), []), ((.iconst 5, 1, []), []), ((.newarray .int, 2, [40]), []), ((.putfield 32, 3, [0, 4, 10, 2]), []), ((.aload_n 0, 1, []), []), ((.iconst 5, 1, []), []), ((.newarray .int, 2, [40]), []), ((.putfield 35, 3, [0, 4, 11, 2]), []), ((.aload_n 0, 1, []), []), ((.iconst 5, 1, []), []), ((.newarray .int, 2, [40]), []), ((.putfield 38, 3, [0, 4, 12, 2]), []), ((.aload_n 0, 1, []), []), ((.bipush 15, 2, []), []), ((.newarray .int, 2, [40]), []), ((.putfield 41, 3, [0, 4, 13, 2]), []), ((.aload_n 0, 1, []), []), ((.bipush 15, 2, []), []), ((.newarray .int, 2, [40]), []), ((.putfield 44, 3, [0, 4, 14, 2]), []), ((.aload_n 0, 1, []), []), ((.bipush 15, 2, []), []), ((.newarray .int, 2, [40]), []), ((.putfield 47, 3, [0, 4, 15, 2]), []), ((.aload_n 0, 1, []), []), ((.bipush 15, 2, []), []), ((.newarray .int, 2, [40]), []), ((.putfield 50, 3, [0, 4, 16, 2]), []), ((.aload_n 0, 1, []), []), ((.bipush 120, 2, []), []), ((.newarray .int, 2, [40]), []), ((.putfield 53, 3, [0, 4, 17, 2]), []), ((.aload_n 0, 1, []), []), ((.iconst 5, 1, []), []), ((.newarray .int, 2, [40]), []), ((.putfield 56, 3, [0, 4, 19, 2]), []), ((.aload_n 0, 1, []), []), ((.bipush 120, 2, []), []), ((.newarray .int, 2, [40]), []), ((.putfield 59, 3, [0, 4, 21, 2]), []), ((.aload_n 0, 1, []), []), ((.sipush 240, 3, []), []), ((.newarray .int, 2, [40]), []), ((.putfield 62, 3, [0, 4, 23, 2]), []), ((.aload_n 0, 1, []), []), ((.bipush 6, 2, []), []), ((.newarray .int, 2, [40]), []), ((.putfield 65, 3, [0, 4, 24, 2]), []), ((.aload_n 0, 1, []), []), ((.bipush 6, 2, []), []), ((.newarray .int, 2, [40]), []), ((.putfield 68, 3, [0, 4, 29, 2]), []), ((.aload_n 0, 1, []), []), ((.sipush 144, 3, []), []), ((.newarray .double, 2, [43]), []), ((.putfield 71, 3, [0, 4, 30, 2]), []), ((.aload_n 0, 1, []), []), ((.sipush 1440, 3, []), []), ((.newarray .double, 2, [43]), []), ((.putfield 74, 3, [0, 4, 31, 2]), []), ((.aload_n 0, 1, []), []), ((.sipush 1440, 3, []), []), ((.newarray .boolean, 2, [44]), []), ((.putfield 77, 3, [0, 4, 32, 2]), []), ((.aload_n 0, 1, []), []), ((.iconst 3, 1, []), []), ((.newarray .int, 2, [40]), []), ((.putfield 81, 3, [0, 4, 35, 2]), []), ((.aload_n 0, 1, []), []), ((.bipush 10, 2, []), []), ((.newarray .int, 2, [40]), []), ((.putfield 84, 3, [0, 4, 36, 2]), []), ((.aload_n 0, 1, []), []), ((.bipush 10, 2, []), []), ((.newarray .int, 2, [40]), []), ((.putfield 87, 3, [0, 4, 40, 2]), []), ((.aload_n 0, 1, []), []), ((.sipush 144, 3, []), []), ((.newarray .double, 2, [43]), []), ((.putfield 90, 3, [0, 4, 41, 2]), []), ((.aload_n 0, 1, []), []), ((.sipush 144, 3, []), []), ((.newarray .double, 2, [43]), []), ((.putfield 93, 3, [0, 4, 42, 2]), []), ((.aload_n 0, 1, []), []), ((.sipush 144, 3, []), []), ((.newarray .int, 2, [40]), []), ((.putfield 96, 3, [0, 4, 43, 2]), []), ((.aload_n 0, 1, []), []), ((.bipush 10, 2, []), []), ((.newarray .int, 2, [40]), []), ((.putfield 99, 3, [0, 4, 44, 2]), []), ((.aload_n 0, 1, []), []), ((.iconst 3, 1, []), []), ((.newarray .int, 2, [40]), []), ((.putfield 102, 3, [0, 4, 45, 2]), []), ((.aload_n 0, 1, []), []), ((.iconst 3, 1, []), []), ((.newarray .int, 2, [40]), []), ((.putfield 105, 3, [0, 4, 46, 2]), []), ((.iconst 0, 1, []), []), ((.istore_n 1, 1, []), []), ((.nop, 0, [0, 172294]), [])] [.ref a0, z1] [.ref s0, .ref s1] M Q := by
  unfold F_X3_init_0_p28 at h
  obtain ⟨hc, h⟩ := gd h
  refine (x_putf4 hc).mpr ?_
  exact sF_X3_init_0_p36 h hq
def F_X3_init_0_p21 (a0 : Nat)  (M : ev_M) : Option ev_M := (if 0 ≤ ((iI (144))).toInt ∧ ((iI (144))).toInt ≤ 100000 then F_X3_init_0_p28 a0 (nx M) a0 (wN M 40 (ev_ix (iI (144))) (ev_ix (iI (144)))) else none)
theorem sF_X3_init_0_p21 {a0 : Nat}  {z1 : Value} {M : ev_M} {Q : Nat → Value → ev_M → Prop} {r : ev_M} (h : F_X3_init_0_p21 a0  M = some r) (hq : Q 0 jk r) : XP ev_prog [((.aload_n 0, 1, []), []), ((.sipush 144, 3, []), []), ((.newarray .int, 2, [40]), []), ((.putfield 20, 3, [0, 4, 3, 2]), []), ((.aload_n 0, 1, []), []), ((.bipush 24, 2, []), []), ((.newarray .double, 2, [43]), []), ((.putfield 23, 3, [0, 4, 5, 2]), []), ((.aload_n 0, 1, []), []), ((.iconst 5, 1, []), []), ((.newarray .int, 2, [40]), []), ((.putfield 26, 3, [0, 4, 8, 2]), []), ((.aload_n 0, 1, []), []), ((.iconst 5, 1, []), []), ((.newarray .int, 2, [40]), []), ((.putfield 29, 3, [0, 4, 9, 2]), []), ((.aload_n 0, 1, []), []), ((.iconst 5, 1, []), []), ((.newarray .int, 2, [40]), []), ((.putfield 32, 3, [0, 4, 10, 2]), []), ((.aload_n 0, 1, []), []), ((.iconst 5, 1, []), []), ((.newarray .int, 2, [40]), []), ((.putfield 35, 3, [0, 4, 11, 2]), []), ((.aload_n 0, 1, []), []), ((.iconst 5, 1, []), []), ((.newarray .int, 2, [40]), []), ((.putfield 38, 3, [0, 4, 12, 2]), []), ((.aload_n 0, 1, []), []), ((.bipush 15, 2, []), []), ((.newarray .int, 2, [40]), []), ((.putfield 41, 3, [0, 4, 13, 2]), []), ((.aload_n 0, 1, []), []), ((.bipush 15, 2, []), []), ((.newarray .int, 2, [40]), []), ((.putfield 44, 3, [0, 4, 14, 2]), []), ((.aload_n 0, 1, []), []), ((.bipush 15, 2, []), []), ((.newarray .int, 2, [40]), []), ((.putfield 47, 3, [0, 4, 15, 2]), []), ((.aload_n 0, 1, []), []), ((.bipush 15, 2, []), []), ((.newarray .int, 2, [40]), []), ((.putfield 50, 3, [0, 4, 16, 2]), []), ((.aload_n 0, 1, []), []), ((.bipush 120, 2, []), []), ((.newarray .int, 2, [40]), []), ((.putfield 53, 3, [0, 4, 17, 2]), []), ((.aload_n 0, 1, []), []), ((.iconst 5, 1, []), []), ((.newarray .int, 2, [40]), []), ((.putfield 56, 3, [0, 4, 19, 2]), []), ((.aload_n 0, 1, []), []), ((.bipush 120, 2, []), []), ((.newarray .int, 2, [40]), []), ((.putfield 59, 3, [0, 4, 21, 2]), []), ((.aload_n 0, 1, []), []), ((.sipush 240, 3, []), []), ((.newarray .int, 2, [40]), []), ((.putfield 62, 3, [0, 4, 23, 2]), []), ((.aload_n 0, 1, []), []), ((.bipush 6, 2, []), []), ((.newarray .int, 2, [40]), []), ((.putfield 65, 3, [0, 4, 24, 2]), []), ((.aload_n 0, 1, []), []), ((.bipush 6, 2, []), []), ((.newarray .int, 2, [40]), []), ((.putfield 68, 3, [0, 4, 29, 2]), []), ((.aload_n 0, 1, []), []), ((.sipush 144, 3, []), []), ((.newarray .double, 2, [43]), []), ((.putfield 71, 3, [0, 4, 30, 2]), []), ((.aload_n 0, 1, []), []), ((.sipush 1440, 3, []), []), ((.newarray .double, 2, [43]), []), ((.putfield 74, 3, [0, 4, 31, 2]), []), ((.aload_n 0, 1, []), []), ((.sipush 1440, 3, []), []), ((.newarray .boolean, 2, [44]), []), ((.putfield 77, 3, [0, 4, 32, 2]), []), ((.aload_n 0, 1, []), []), ((.iconst 3, 1, []), []), ((.newarray .int, 2, [40]), []), ((.putfield 81, 3, [0, 4, 35, 2]), []), ((.aload_n 0, 1, []), []), ((.bipush 10, 2, []), []), ((.newarray .int, 2, [40]), []), ((.putfield 84, 3, [0, 4, 36, 2]), []), ((.aload_n 0, 1, []), []), ((.bipush 10, 2, []), []), ((.newarray .int, 2, [40]), []), ((.putfield 87, 3, [0, 4, 40, 2]), []), ((.aload_n 0, 1, []), []), ((.sipush 144, 3, []), []), ((.newarray .double, 2, [43]), []), ((.putfield 90, 3, [0, 4, 41, 2]), []), ((.aload_n 0, 1, []), []), ((.sipush 144, 3, []), []), ((.newarray .double, 2, [43]), []), ((.putfield 93, 3, [0, 4, 42, 2]), []), ((.aload_n 0, 1, []), []), ((.sipush 144, 3, []), []), ((.newarray .int, 2, [40]), []), ((.putfield 96, 3, [0, 4, 43, 2]), []), ((.aload_n 0, 1, []), []), ((.bipush 10, 2, []), []), ((.newarray .int, 2, [40]), []), ((.putfield 99, 3, [0, 4, 44, 2]), []), ((.aload_n 0, 1, []), []), ((.iconst 3, 1, []), []), ((.newarray .int, 2, [40]), []), ((.putfield 102, 3, [0, 4, 45, 2]), []), ((.aload_n 0, 1, []), []), ((.iconst 3, 1, []), []), ((.newarray .int, 2, [40]), []), ((.putfield 105, 3, [0, 4, 46, 2]), []), ((.iconst 0, 1, []), []), ((.istore_n 1, 1, []), []), ((.nop, 0, [0, 172294]), [])] [.ref a0, z1] [] M Q := by
  unfold F_X3_init_0_p21 at h
  refine x_aloadn0.mpr ?_
  refine (x_sipush (by decide)).mpr ?_
  obtain ⟨hc, h⟩ := gd h
  refine (x_newa hc).mpr ?_
  exact sF_X3_init_0_p28 h hq
def F_X3_init_0_p15 (a0 : Nat) (s0 : Nat) (s1 : Nat) (M : ev_M) : Option ev_M := (if ([2] : List Nat).contains (mK M s1) = true then F_X3_init_0_p21 a0  (wA M s1 2 s0) else none)
theorem sF_X3_init_0_p15 {a0 : Nat} {s0 : Nat} {s1 : Nat} {z1 : Value} {M : ev_M} {Q : Nat → Value → ev_M → Prop} {r : ev_M} (h : F_X3_init_0_p15 a0 s0 s1 M = some r) (hq : Q 0 jk r) : XP ev_prog [((.putfield 16, 3, [0, 4, 2, 2]), []), ((.aload_n 0, 1, []), []), ((.sipush 144, 3, []), []), ((.newarray .int, 2, [40]), []), ((.putfield 20, 3, [0, 4, 3, 2]), []), ((.aload_n 0, 1, []), []), ((.bipush 24, 2, []), []), ((.newarray .double, 2, [43]), []), ((.putfield 23, 3, [0, 4, 5, 2]), []), ((.aload_n 0, 1, []), []), ((.iconst 5, 1, []), []), ((.newarray .int, 2, [40]), []), ((.putfield 26, 3, [0, 4, 8, 2]), []), ((.aload_n 0, 1, []), []), ((.iconst 5, 1, []), []), ((.newarray .int, 2, [40]), []), ((.putfield 29, 3, [0, 4, 9, 2]), []), ((.aload_n 0, 1, []), []), ((.iconst 5, 1, []), []), ((.newarray .int, 2, [40]), []), ((.putfield 32, 3, [0, 4, 10, 2]), []), ((.aload_n 0, 1, []), []), ((.iconst 5, 1, []), []), ((.newarray .int, 2, [40]), []), ((.putfield 35, 3, [0, 4, 11, 2]), []), ((.aload_n 0, 1, []), []), ((.iconst 5, 1, []), []), ((.newarray .int, 2, [40]), []), ((.putfield 38, 3, [0, 4, 12, 2]), []), ((.aload_n 0, 1, []), []), ((.bipush 15, 2, []), []), ((.newarray .int, 2, [40]), []), ((.putfield 41, 3, [0, 4, 13, 2]), []), ((.aload_n 0, 1, []), []), ((.bipush 15, 2, []), []), ((.newarray .int, 2, [40]), []), ((.putfield 44, 3, [0, 4, 14, 2]), []), ((.aload_n 0, 1, []), []), ((.bipush 15, 2, []), []), ((.newarray .int, 2, [40]), []), ((.putfield 47, 3, [0, 4, 15, 2]), []), ((.aload_n 0, 1, []), []), ((.bipush 15, 2, []), []), ((.newarray .int, 2, [40]), []), ((.putfield 50, 3, [0, 4, 16, 2]), []), ((.aload_n 0, 1, []), []), ((.bipush 120, 2, []), []), ((.newarray .int, 2, [40]), []), ((.putfield 53, 3, [0, 4, 17, 2]), []), ((.aload_n 0, 1, []), []), ((.iconst 5, 1, []), []), ((.newarray .int, 2, [40]), []), ((.putfield 56, 3, [0, 4, 19, 2]), []), ((.aload_n 0, 1, []), []), ((.bipush 120, 2, []), []), ((.newarray .int, 2, [40]), []), ((.putfield 59, 3, [0, 4, 21, 2]), []), ((.aload_n 0, 1, []), []), ((.sipush 240, 3, []), []), ((.newarray .int, 2, [40]), []), ((.putfield 62, 3, [0, 4, 23, 2]), []), ((.aload_n 0, 1, []), []), ((.bipush 6, 2, []), []), ((.newarray .int, 2, [40]), []), ((.putfield 65, 3, [0, 4, 24, 2]), []), ((.aload_n 0, 1, []), []), ((.bipush 6, 2, []), []), ((.newarray .int, 2, [40]), []), ((.putfield 68, 3, [0, 4, 29, 2]), []), ((.aload_n 0, 1, []), []), ((.sipush 144, 3, []), []), ((.newarray .double, 2, [43]), []), ((.putfield 71, 3, [0, 4, 30, 2]), []), ((.aload_n 0, 1, []), []), ((.sipush 1440, 3, []), []), ((.newarray .double, 2, [43]), []), ((.putfield 74, 3, [0, 4, 31, 2]), []), ((.aload_n 0, 1, []), []), ((.sipush 1440, 3, []), []), ((.newarray .boolean, 2, [44]), []), ((.putfield 77, 3, [0, 4, 32, 2]), []), ((.aload_n 0, 1, []), []), ((.iconst 3, 1, []), []), ((.newarray .int, 2, [40]), []), ((.putfield 81, 3, [0, 4, 35, 2]), []), ((.aload_n 0, 1, []), []), ((.bipush 10, 2, []), []), ((.newarray .int, 2, [40]), []), ((.putfield 84, 3, [0, 4, 36, 2]), []), ((.aload_n 0, 1, []), []), ((.bipush 10, 2, []), []), ((.newarray .int, 2, [40]), []), ((.putfield 87, 3, [0, 4, 40, 2]), []), ((.aload_n 0, 1, []), []), ((.sipush 144, 3, []), []), ((.newarray .double, 2, [43]), []), ((.putfield 90, 3, [0, 4, 41, 2]), []), ((.aload_n 0, 1, []), []), ((.sipush 144, 3, []), []), ((.newarray .double, 2, [43]), []), ((.putfield 93, 3, [0, 4, 42, 2]), []), ((.aload_n 0, 1, []), []), ((.sipush 144, 3, []), []), ((.newarray .int, 2, [40]), []), ((.putfield 96, 3, [0, 4, 43, 2]), []), ((.aload_n 0, 1, []), []), ((.bipush 10, 2, []), []), ((.newarray .int, 2, [40]), []), ((.putfield 99, 3, [0, 4, 44, 2]), []), ((.aload_n 0, 1, []), []), ((.iconst 3, 1, []), []), ((.newarray .int, 2, [40]), []), ((.putfield 102, 3, [0, 4, 45, 2]), []), ((.aload_n 0, 1, []), []), ((.iconst 3, 1, []), []), ((.newarray .int, 2, [40]), []), ((.putfield 105, 3, [0, 4, 46, 2]), []), ((.iconst 0, 1, []), []), ((.istore_n 1, 1, []), []), ((.nop, 0, [0, 172294]), [])] [.ref a0, z1] [.ref s0, .ref s1] M Q := by
  unfold F_X3_init_0_p15 at h
  obtain ⟨hc, h⟩ := gd h
  refine (x_putf4 hc).mpr ?_
  exact sF_X3_init_0_p21 h hq
def F_X3_init_0_p10 (a0 : Nat)  (M : ev_M) : Option ev_M := (if 0 ≤ ((iI (144))).toInt ∧ ((iI (144))).toInt ≤ 100000 then F_X3_init_0_p15 a0 (nx M) a0 (wN M 43 (ev_ix (iI (144))) (ev_ix (iI (144)))) else none)
theorem sF_X3_init_0_p10 {a0 : Nat}  {z1 : Value} {M : ev_M} {Q : Nat → Value → ev_M → Prop} {r : ev_M} (h : F_X3_init_0_p10 a0  M = some r) (hq : Q 0 jk r) : XP ev_prog [((.aload_n 0, 1, []), []), ((.sipush 144, 3, []), []), ((.newarray .double, 2, [43]), []), ((.putfield 16, 3, [0, 4, 2, 2]), []), ((.aload_n 0, 1, []), []), ((.sipush 144, 3, []), []), ((.newarray .int, 2, [40]), []), ((.putfield 20, 3, [0, 4, 3, 2]), []), ((.aload_n 0, 1, []), []), ((.bipush 24, 2, []), []), ((.newarray .double, 2, [43]), []), ((.putfield 23, 3, [0, 4, 5, 2]), []), ((.aload_n 0, 1, []), []), ((.iconst 5, 1, []), []), ((.newarray .int, 2, [40]), []), ((.putfield 26, 3, [0, 4, 8, 2]), []), ((.aload_n 0, 1, []), []), ((.iconst 5, 1, []), []), ((.newarray .int, 2, [40]), []), ((.putfield 29, 3, [0, 4, 9, 2]), []), ((.aload_n 0, 1, []), []), ((.iconst 5, 1, []), []), ((.newarray .int, 2, [40]), []), ((.putfield 32, 3, [0, 4, 10, 2]), []), ((.aload_n 0, 1, []), []), ((.iconst 5, 1, []), []), ((.newarray .int, 2, [40]), []), ((.putfield 35, 3, [0, 4, 11, 2]), []), ((.aload_n 0, 1, []), []), ((.iconst 5, 1, []), []), ((.newarray .int, 2, [40]), []), ((.putfield 38, 3, [0, 4, 12, 2]), []), ((.aload_n 0, 1, []), []), ((.bipush 15, 2, []), []), ((.newarray .int, 2, [40]), []), ((.putfield 41, 3, [0, 4, 13, 2]), []), ((.aload_n 0, 1, []), []), ((.bipush 15, 2, []), []), ((.newarray .int, 2, [40]), []), ((.putfield 44, 3, [0, 4, 14, 2]), []), ((.aload_n 0, 1, []), []), ((.bipush 15, 2, []), []), ((.newarray .int, 2, [40]), []), ((.putfield 47, 3, [0, 4, 15, 2]), []), ((.aload_n 0, 1, []), []), ((.bipush 15, 2, []), []), ((.newarray .int, 2, [40]), []), ((.putfield 50, 3, [0, 4, 16, 2]), []), ((.aload_n 0, 1, []), []), ((.bipush 120, 2, []), []), ((.newarray .int, 2, [40]), []), ((.putfield 53, 3, [0, 4, 17, 2]), []), ((.aload_n 0, 1, []), []), ((.iconst 5, 1, []), []), ((.newarray .int, 2, [40]), []), ((.putfield 56, 3, [0, 4, 19, 2]), []), ((.aload_n 0, 1, []), []), ((.bipush 120, 2, []), []), ((.newarray .int, 2, [40]), []), ((.putfield 59, 3, [0, 4, 21, 2]), []), ((.aload_n 0, 1, []), []), ((.sipush 240, 3, []), []), ((.newarray .int, 2, [40]), []), ((.putfield 62, 3, [0, 4, 23, 2]), []), ((.aload_n 0, 1, []), []), ((.bipush 6, 2, []), []), ((.newarray .int, 2, [40]), []), ((.putfield 65, 3, [0, 4, 24, 2]), []), ((.aload_n 0, 1, []), []), ((.bipush 6, 2, []), []), ((.newarray .int, 2, [40]), []), ((.putfield 68, 3, [0, 4, 29, 2]), []), ((.aload_n 0, 1, []), []), ((.sipush 144, 3, []), []), ((.newarray .double, 2, [43]), []), ((.putfield 71, 3, [0, 4, 30, 2]), []), ((.aload_n 0, 1, []), []), ((.sipush 1440, 3, []), []), ((.newarray .double, 2, [43]), []), ((.putfield 74, 3, [0, 4, 31, 2]), []), ((.aload_n 0, 1, []), []), ((.sipush 1440, 3, []), []), ((.newarray .boolean, 2, [44]), []), ((.putfield 77, 3, [0, 4, 32, 2]), []), ((.aload_n 0, 1, []), []), ((.iconst 3, 1, []), []), ((.newarray .int, 2, [40]), []), ((.putfield 81, 3, [0, 4, 35, 2]), []), ((.aload_n 0, 1, []), []), ((.bipush 10, 2, []), []), ((.newarray .int, 2, [40]), []), ((.putfield 84, 3, [0, 4, 36, 2]), []), ((.aload_n 0, 1, []), []), ((.bipush 10, 2, []), []), ((.newarray .int, 2, [40]), []), ((.putfield 87, 3, [0, 4, 40, 2]), []), ((.aload_n 0, 1, []), []), ((.sipush 144, 3, []), []), ((.newarray .double, 2, [43]), []), ((.putfield 90, 3, [0, 4, 41, 2]), []), ((.aload_n 0, 1, []), []), ((.sipush 144, 3, []), []), ((.newarray .double, 2, [43]), []), ((.putfield 93, 3, [0, 4, 42, 2]), []), ((.aload_n 0, 1, []), []), ((.sipush 144, 3, []), []), ((.newarray .int, 2, [40]), []), ((.putfield 96, 3, [0, 4, 43, 2]), []), ((.aload_n 0, 1, []), []), ((.bipush 10, 2, []), []), ((.newarray .int, 2, [40]), []), ((.putfield 99, 3, [0, 4, 44, 2]), []), ((.aload_n 0, 1, []), []), ((.iconst 3, 1, []), []), ((.newarray .int, 2, [40]), []), ((.putfield 102, 3, [0, 4, 45, 2]), []), ((.aload_n 0, 1, []), []), ((.iconst 3, 1, []), []), ((.newarray .int, 2, [40]), []), ((.putfield 105, 3, [0, 4, 46, 2]), []), ((.iconst 0, 1, []), []), ((.istore_n 1, 1, []), []), ((.nop, 0, [0, 172294]), [])] [.ref a0, z1] [] M Q := by
  unfold F_X3_init_0_p10 at h
  refine x_aloadn0.mpr ?_
  refine (x_sipush (by decide)).mpr ?_
  obtain ⟨hc, h⟩ := gd h
  refine (x_newa hc).mpr ?_
  exact sF_X3_init_0_p15 h hq
def F_X3_init_0_p6 (a0 : Nat) (s0 : Nat) (s1 : Nat) (M : ev_M) : Option ev_M := (if ([2] : List Nat).contains (mK M s1) = true then F_X3_init_0_p10 a0  (wA M s1 1 s0) else none)
theorem sF_X3_init_0_p6 {a0 : Nat} {s0 : Nat} {s1 : Nat} {z1 : Value} {M : ev_M} {Q : Nat → Value → ev_M → Prop} {r : ev_M} (h : F_X3_init_0_p6 a0 s0 s1 M = some r) (hq : Q 0 jk r) : XP ev_prog [((.putfield 13, 3, [0, 4, 1, 2]), []), ((.aload_n 0, 1, []), []), ((.sipush 144, 3, []), []), ((.newarray .double, 2, [43]), []), ((.putfield 16, 3, [0, 4, 2, 2]), []), ((.aload_n 0, 1, []), []), ((.sipush 144, 3, []), []), ((.newarray .int, 2, [40]), []), ((.putfield 20, 3, [0, 4, 3, 2]), []), ((.aload_n 0, 1, []), []), ((.bipush 24, 2, []), []), ((.newarray .double, 2, [43]), []), ((.putfield 23, 3, [0, 4, 5, 2]), []), ((.aload_n 0, 1, []), []), ((.iconst 5, 1, []), []), ((.newarray .int, 2, [40]), []), ((.putfield 26, 3, [0, 4, 8, 2]), []), ((.aload_n 0, 1, []), []), ((.iconst 5, 1, []), []), ((.newarray .int, 2, [40]), []), ((.putfield 29, 3, [0, 4, 9, 2]), []), ((.aload_n 0, 1, []), []), ((.iconst 5, 1, []), []), ((.newarray .int, 2, [40]), []), ((.putfield 32, 3, [0, 4, 10, 2]), []), ((.aload_n 0, 1, []), []), ((.iconst 5, 1, []), []), ((.newarray .int, 2, [40]), []), ((.putfield 35, 3, [0, 4, 11, 2]), []), ((.aload_n 0, 1, []), []), ((.iconst 5, 1, []), []), ((.newarray .int, 2, [40]), []), ((.putfield 38, 3, [0, 4, 12, 2]), []), ((.aload_n 0, 1, []), []), ((.bipush 15, 2, []), []), ((.newarray .int, 2, [40]), []), ((.putfield 41, 3, [0, 4, 13, 2]), []), ((.aload_n 0, 1, []), []), ((.bipush 15, 2, []), []), ((.newarray .int, 2, [40]), []), ((.putfield 44, 3, [0, 4, 14, 2]), []), ((.aload_n 0, 1, []), []), ((.bipush 15, 2, []), []), ((.newarray .int, 2, [40]), []), ((.putfield 47, 3, [0, 4, 15, 2]), []), ((.aload_n 0, 1, []), []), ((.bipush 15, 2, []), []), ((.newarray .int, 2, [40]), []), ((.putfield 50, 3, [0, 4, 16, 2]), []), ((.aload_n 0, 1, []), []), ((.bipush 120, 2, []), []), ((.newarray .int, 2, [40]), []), ((.putfield 53, 3, [0, 4, 17, 2]), []), ((.aload_n 0, 1, []), []), ((.iconst 5, 1, []), []), ((.newarray .int, 2, [40]), []), ((.putfield 56, 3, [0, 4, 19, 2]), []), ((.aload_n 0, 1, []), []), ((.bipush 120, 2, []), []), ((.newarray .int, 2, [40]), []), ((.putfield 59, 3, [0, 4, 21, 2]), []), ((.aload_n 0, 1, []), []), ((.sipush 240, 3, []), []), ((.newarray .int, 2, [40]), []), ((.putfield 62, 3, [0, 4, 23, 2]), []), ((.aload_n 0, 1, []), []), ((.bipush 6, 2, []), []), ((.newarray .int, 2, [40]), []), ((.putfield 65, 3, [0, 4, 24, 2]), []), ((.aload_n 0, 1, []), []), ((.bipush 6, 2, []), []), ((.newarray .int, 2, [40]), []), ((.putfield 68, 3, [0, 4, 29, 2]), []), ((.aload_n 0, 1, []), []), ((.sipush 144, 3, []), []), ((.newarray .double, 2, [43]), []), ((.putfield 71, 3, [0, 4, 30, 2]), []), ((.aload_n 0, 1, []), []), ((.sipush 1440, 3, []), []), ((.newarray .double, 2, [43]), []), ((.putfield 74, 3, [0, 4, 31, 2]), []), ((.aload_n 0, 1, []), []), ((.sipush 1440, 3, []), []), ((.newarray .boolean, 2, [44]), []), ((.putfield 77, 3, [0, 4, 32, 2]), []), ((.aload_n 0, 1, []), []), ((.iconst 3, 1, []), []), ((.newarray .int, 2, [40]), []), ((.putfield 81, 3, [0, 4, 35, 2]), []), ((.aload_n 0, 1, []), []), ((.bipush 10, 2, []), []), ((.newarray .int, 2, [40]), []), ((.putfield 84, 3, [0, 4, 36, 2]), []), ((.aload_n 0, 1, []), []), ((.bipush 10, 2, []), []), ((.newarray .int, 2, [40]), []), ((.putfield 87, 3, [0, 4, 40, 2]), []), ((.aload_n 0, 1, []), []), ((.sipush 144, 3, []), []), ((.newarray .double, 2, [43]), []), ((.putfield 90, 3, [0, 4, 41, 2]), []), ((.aload_n 0, 1, []), []), ((.sipush 144, 3, []), []), ((.newarray .double, 2, [43]), []), ((.putfield 93, 3, [0, 4, 42, 2]), []), ((.aload_n 0, 1, []), []), ((.sipush 144, 3, []), []), ((.newarray .int, 2, [40]), []), ((.putfield 96, 3, [0, 4, 43, 2]), []), ((.aload_n 0, 1, []), []), ((.bipush 10, 2, []), []), ((.newarray .int, 2, [40]), []), ((.putfield 99, 3, [0, 4, 44, 2]), []), ((.aload_n 0, 1, []), []), ((.iconst 3, 1, []), []), ((.newarray .int, 2, [40]), []), ((.putfield 102, 3, [0, 4, 45, 2]), []), ((.aload_n 0, 1, []), []), ((.iconst 3, 1, []), []), ((.newarray .int, 2, [40]), []), ((.putfield 105, 3, [0, 4, 46, 2]), []), ((.iconst 0, 1, []), []), ((.istore_n 1, 1, []), []), ((.nop, 0, [0, 172294]), [])] [.ref a0, z1] [.ref s0, .ref s1] M Q := by
  unfold F_X3_init_0_p6 at h
  obtain ⟨hc, h⟩ := gd h
  refine (x_putf4 hc).mpr ?_
  exact sF_X3_init_0_p10 h hq
def F_X3_init_0_p3 (a0 : Nat)  (M : ev_M) : Option ev_M := (if 0 ≤ ((iI (6))).toInt ∧ ((iI (6))).toInt ≤ 100000 then F_X3_init_0_p6 a0 (nx M) a0 (wN M 40 (ev_ix (iI (6))) (ev_ix (iI (6)))) else none)
theorem sF_X3_init_0_p3 {a0 : Nat}  {z1 : Value} {M : ev_M} {Q : Nat → Value → ev_M → Prop} {r : ev_M} (h : F_X3_init_0_p3 a0  M = some r) (hq : Q 0 jk r) : XP ev_prog [((.aload_n 0, 1, []), []), ((.bipush 6, 2, []), []), ((.newarray .int, 2, [40]), []), ((.putfield 13, 3, [0, 4, 1, 2]), []), ((.aload_n 0, 1, []), []), ((.sipush 144, 3, []), []), ((.newarray .double, 2, [43]), []), ((.putfield 16, 3, [0, 4, 2, 2]), []), ((.aload_n 0, 1, []), []), ((.sipush 144, 3, []), []), ((.newarray .int, 2, [40]), []), ((.putfield 20, 3, [0, 4, 3, 2]), []), ((.aload_n 0, 1, []), []), ((.bipush 24, 2, []), []), ((.newarray .double, 2, [43]), []), ((.putfield 23, 3, [0, 4, 5, 2]), []), ((.aload_n 0, 1, []), []), ((.iconst 5, 1, []), []), ((.newarray .int, 2, [40]), []), ((.putfield 26, 3, [0, 4, 8, 2]), []), ((.aload_n 0, 1, []), []), ((.iconst 5, 1, []), []), ((.newarray .int, 2, [40]), []), ((.putfield 29, 3, [0, 4, 9, 2]), []), ((.aload_n 0, 1, []), []), ((.iconst 5, 1, []), []), ((.newarray .int, 2, [40]), []), ((.putfield 32, 3, [0, 4, 10, 2]), []), ((.aload_n 0, 1, []), []), ((.iconst 5, 1, []), []), ((.newarray .int, 2, [40]), []), ((.putfield 35, 3, [0, 4, 11, 2]), []), ((.aload_n 0, 1, []), []), ((.iconst 5, 1, []), []), ((.newarray .int, 2, [40]), []), ((.putfield 38, 3, [0, 4, 12, 2]), []), ((.aload_n 0, 1, []), []), ((.bipush 15, 2, []), []), ((.newarray .int, 2, [40]), []), ((.putfield 41, 3, [0, 4, 13, 2]), []), ((.aload_n 0, 1, []), []), ((.bipush 15, 2, []), []), ((.newarray .int, 2, [40]), []), ((.putfield 44, 3, [0, 4, 14, 2]), []), ((.aload_n 0, 1, []), []), ((.bipush 15, 2, []), []), ((.newarray .int, 2, [40]), []), ((.putfield 47, 3, [0, 4, 15, 2]), []), ((.aload_n 0, 1, []), []), ((.bipush 15, 2, []), []), ((.newarray .int, 2, [40]), []), ((.putfield 50, 3, [0, 4, 16, 2]), []), ((.aload_n 0, 1, []), []), ((.bipush 120, 2, []), []), ((.newarray .int, 2, [40]), []), ((.putfield 53, 3, [0, 4, 17, 2]), []), ((.aload_n 0, 1, []), []), ((.iconst 5, 1, []), []), ((.newarray .int, 2, [40]), []), ((.putfield 56, 3, [0, 4, 19, 2]), []), ((.aload_n 0, 1, []), []), ((.bipush 120, 2, []), []), ((.newarray .int, 2, [40]), []), ((.putfield 59, 3, [0, 4, 21, 2]), []), ((.aload_n 0, 1, []), []), ((.sipush 240, 3, []), []), ((.newarray .int, 2, [40]), []), ((.putfield 62, 3, [0, 4, 23, 2]), []), ((.aload_n 0, 1, []), []), ((.bipush 6, 2, []), []), ((.newarray .int, 2, [40]), []), ((.putfield 65, 3, [0, 4, 24, 2]), []), ((.aload_n 0, 1, []), []), ((.bipush 6, 2, []), []), ((.newarray .int, 2, [40]), []), ((.putfield 68, 3, [0, 4, 29, 2]), []), ((.aload_n 0, 1, []), []), ((.sipush 144, 3, []), []), ((.newarray .double, 2, [43]), []), ((.putfield 71, 3, [0, 4, 30, 2]), []), ((.aload_n 0, 1, []), []), ((.sipush 1440, 3, []), []), ((.newarray .double, 2, [43]), []), ((.putfield 74, 3, [0, 4, 31, 2]), []), ((.aload_n 0, 1, []), []), ((.sipush 1440, 3, []), []), ((.newarray .boolean, 2, [44]), []), ((.putfield 77, 3, [0, 4, 32, 2]), []), ((.aload_n 0, 1, []), []), ((.iconst 3, 1, []), []), ((.newarray .int, 2, [40]), []), ((.putfield 81, 3, [0, 4, 35, 2]), []), ((.aload_n 0, 1, []), []), ((.bipush 10, 2, []), []), ((.newarray .int, 2, [40]), []), ((.putfield 84, 3, [0, 4, 36, 2]), []), ((.aload_n 0, 1, []), []), ((.bipush 10, 2, []), []), ((.newarray .int, 2, [40]), []), ((.putfield 87, 3, [0, 4, 40, 2]), []), ((.aload_n 0, 1, []), []), ((.sipush 144, 3, []), []), ((.newarray .double, 2, [43]), []), ((.putfield 90, 3, [0, 4, 41, 2]), []), ((.aload_n 0, 1, []), []), ((.sipush 144, 3, []), []), ((.newarray .double, 2, [43]), []), ((.putfield 93, 3, [0, 4, 42, 2]), []), ((.aload_n 0, 1, []), []), ((.sipush 144, 3, []), []), ((.newarray .int, 2, [40]), []), ((.putfield 96, 3, [0, 4, 43, 2]), []), ((.aload_n 0, 1, []), []), ((.bipush 10, 2, []), []), ((.newarray .int, 2, [40]), []), ((.putfield 99, 3, [0, 4, 44, 2]), []), ((.aload_n 0, 1, []), []), ((.iconst 3, 1, []), []), ((.newarray .int, 2, [40]), []), ((.putfield 102, 3, [0, 4, 45, 2]), []), ((.aload_n 0, 1, []), []), ((.iconst 3, 1, []), []), ((.newarray .int, 2, [40]), []), ((.putfield 105, 3, [0, 4, 46, 2]), []), ((.iconst 0, 1, []), []), ((.istore_n 1, 1, []), []), ((.nop, 0, [0, 172294]), [])] [.ref a0, z1] [] M Q := by
  unfold F_X3_init_0_p3 at h
  refine x_aloadn0.mpr ?_
  refine (x_bipush (by decide)).mpr ?_
  obtain ⟨hc, h⟩ := gd h
  refine (x_newa hc).mpr ?_
  exact sF_X3_init_0_p6 h hq
def F_X3_init_0_p1 (a0 : Nat) (s0 : Nat) (s1 : Nat) (M : ev_M) : Option ev_M := (if ([2] : List Nat).contains (mK M s1) = true then F_X3_init_0_p3 a0  (wA M s1 0 s0) else none)
theorem sF_X3_init_0_p1 {a0 : Nat} {s0 : Nat} {s1 : Nat} {z1 : Value} {M : ev_M} {Q : Nat → Value → ev_M → Prop} {r : ev_M} (h : F_X3_init_0_p1 a0 s0 s1 M = some r) (hq : Q 0 jk r) : XP ev_prog [((.putfield 7, 3, [0, 4, 0, 2]), []), ((.aload_n 0, 1, []), []), ((.bipush 6, 2, []), []), ((.newarray .int, 2, [40]), []), ((.putfield 13, 3, [0, 4, 1, 2]), []), ((.aload_n 0, 1, []), []), ((.sipush 144, 3, []), []), ((.newarray .double, 2, [43]), []), ((.putfield 16, 3, [0, 4, 2, 2]), []), ((.aload_n 0, 1, []), []), ((.sipush 144, 3, []), []), ((.newarray .int, 2, [40]), []), ((.putfield 20, 3, [0, 4, 3, 2]), []), ((.aload_n 0, 1, []), []), ((.bipush 24, 2, []), []), ((.newarray .double, 2, [43]), []), ((.putfield 23, 3, [0, 4, 5, 2]), []), ((.aload_n 0, 1, []), []), ((.iconst 5, 1, []), []), ((.newarray .int, 2, [40]), []), ((.putfield 26, 3, [0, 4, 8, 2]), []), ((.aload_n 0, 1, []), []), ((.iconst 5, 1, []), []), ((.newarray .int, 2, [40]), []), ((.putfield 29, 3, [0, 4, 9, 2]), []), ((.aload_n 0, 1, []), []), ((.iconst 5, 1, []), []), ((.newarray .int, 2, [40]), []), ((.putfield 32, 3, [0, 4, 10, 2]), []), ((.aload_n 0, 1, []), []), ((.iconst 5, 1, []), []), ((.newarray .int, 2, [40]), []), ((.putfield 35, 3, [0, 4, 11, 2]), []), ((.aload_n 0, 1, []), []), ((.iconst 5, 1, []), []), ((.newarray .int, 2, [40]), []), ((.putfield 38, 3, [0, 4, 12, 2]), []), ((.aload_n 0, 1, []), []), ((.bipush 15, 2, []), []), ((.newarray .int, 2, [40]), []), ((.putfield 41, 3, [0, 4, 13, 2]), []), ((.aload_n 0, 1, []), []), ((.bipush 15, 2, []), []), ((.newarray .int, 2, [40]), []), ((.putfield 44, 3, [0, 4, 14, 2]), []), ((.aload_n 0, 1, []), []), ((.bipush 15, 2, []), []), ((.newarray .int, 2, [40]), []), ((.putfield 47, 3, [0, 4, 15, 2]), []), ((.aload_n 0, 1, []), []), ((.bipush 15, 2, []), []), ((.newarray .int, 2, [40]), []), ((.putfield 50, 3, [0, 4, 16, 2]), []), ((.aload_n 0, 1, []), []), ((.bipush 120, 2, []), []), ((.newarray .int, 2, [40]), []), ((.putfield 53, 3, [0, 4, 17, 2]), []), ((.aload_n 0, 1, []), []), ((.iconst 5, 1, []), []), ((.newarray .int, 2, [40]), []), ((.putfield 56, 3, [0, 4, 19, 2]), []), ((.aload_n 0, 1, []), []), ((.bipush 120, 2, []), []), ((.newarray .int, 2, [40]), []), ((.putfield 59, 3, [0, 4, 21, 2]), []), ((.aload_n 0, 1, []), []), ((.sipush 240, 3, []), []), ((.newarray .int, 2, [40]), []), ((.putfield 62, 3, [0, 4, 23, 2]), []), ((.aload_n 0, 1, []), []), ((.bipush 6, 2, []), []), ((.newarray .int, 2, [40]), []), ((.putfield 65, 3, [0, 4, 24, 2]), []), ((.aload_n 0, 1, []), []), ((.bipush 6, 2, []), []), ((.newarray .int, 2, [40]), []), ((.putfield 68, 3, [0, 4, 29, 2]), []), ((.aload_n 0, 1, []), []), ((.sipush 144, 3, []), []), ((.newarray .double, 2, [43]), []), ((.putfield 71, 3, [0, 4, 30, 2]), []), ((.aload_n 0, 1, []), []), ((.sipush 1440, 3, []), []), ((.newarray .double, 2, [43]), []), ((.putfield 74, 3, [0, 4, 31, 2]), []), ((.aload_n 0, 1, []), []), ((.sipush 1440, 3, []), []), ((.newarray .boolean, 2, [44]), []), ((.putfield 77, 3, [0, 4, 32, 2]), []), ((.aload_n 0, 1, []), []), ((.iconst 3, 1, []), []), ((.newarray .int, 2, [40]), []), ((.putfield 81, 3, [0, 4, 35, 2]), []), ((.aload_n 0, 1, []), []), ((.bipush 10, 2, []), []), ((.newarray .int, 2, [40]), []), ((.putfield 84, 3, [0, 4, 36, 2]), []), ((.aload_n 0, 1, []), []), ((.bipush 10, 2, []), []), ((.newarray .int, 2, [40]), []), ((.putfield 87, 3, [0, 4, 40, 2]), []), ((.aload_n 0, 1, []), []), ((.sipush 144, 3, []), []), ((.newarray .double, 2, [43]), []), ((.putfield 90, 3, [0, 4, 41, 2]), []), ((.aload_n 0, 1, []), []), ((.sipush 144, 3, []), []), ((.newarray .double, 2, [43]), []), ((.putfield 93, 3, [0, 4, 42, 2]), []), ((.aload_n 0, 1, []), []), ((.sipush 144, 3, []), []), ((.newarray .int, 2, [40]), []), ((.putfield 96, 3, [0, 4, 43, 2]), []), ((.aload_n 0, 1, []), []), ((.bipush 10, 2, []), []), ((.newarray .int, 2, [40]), []), ((.putfield 99, 3, [0, 4, 44, 2]), []), ((.aload_n 0, 1, []), []), ((.iconst 3, 1, []), []), ((.newarray .int, 2, [40]), []), ((.putfield 102, 3, [0, 4, 45, 2]), []), ((.aload_n 0, 1, []), []), ((.iconst 3, 1, []), []), ((.newarray .int, 2, [40]), []), ((.putfield 105, 3, [0, 4, 46, 2]), []), ((.iconst 0, 1, []), []), ((.istore_n 1, 1, []), []), ((.nop, 0, [0, 172294]), [])] [.ref a0, z1] [.ref s0, .ref s1] M Q := by
  unfold F_X3_init_0_p1 at h
  obtain ⟨hc, h⟩ := gd h
  refine (x_putf4 hc).mpr ?_
  exact sF_X3_init_0_p3 h hq
def F_X3_init_0 (a0 : Nat)  (M : ev_M) : Option ev_M := (if ¬ a0 = 0 then (if 0 ≤ ((iI (6))).toInt ∧ ((iI (6))).toInt ≤ 100000 then F_X3_init_0_p1 a0 (nx M) a0 (wN M 40 (ev_ix (iI (6))) (ev_ix (iI (6)))) else none) else none)
theorem sF_X3_init_0 {a0 : Nat}  {z1 : Value} {M : ev_M} {Q : Nat → Value → ev_M → Prop} {r : ev_M} (h : F_X3_init_0 a0  M = some r) (hq : Q 0 jk r) : XP ev_prog b_X3_init_0 [.ref a0, z1] [] M Q := by
  unfold F_X3_init_0 at h
  refine x_aloadn0.mpr ?_
  obtain ⟨hc, h⟩ := gd h
  refine (x_objinit hc (by show ¬ 8 < 0; decide)).mpr ?_
  refine x_aloadn0.mpr ?_
  refine (x_bipush (by decide)).mpr ?_
  obtain ⟨hc, h⟩ := gd h
  refine (x_newa hc).mpr ?_
  exact sF_X3_init_0_p1 h hq
def f_X3_init (a0 : Nat) (M : ev_M) : Option ev_M := F_X3_init_0 a0 M
theorem sf_X3_init {a0 : Nat} {M : ev_M} {Q : Nat → Value → ev_M → Prop} {r : ev_M} (h : f_X3_init a0 M = some r) (hq : Q 0 jk r) : CX ev_prog 42 [.ref a0] M Q := by
  rw [cx_open (ls := [.ref a0, jk]) bk_X3_init_0 rfl ml_X3_init rfl]
  exact sF_X3_init_0 h hq
def F_X3_in_15  (s0 : Int32) (M : ev_M) : Option (Int32 × ev_M) := (if s0 = 0 ∨ s0 = 1 then some (s0, M) else none)
theorem sF_X3_in_15  {s0 : Int32} {z0 : Value} {z1 : Value} {z2 : Value} {M : ev_M} {Q : Nat → Value → ev_M → Prop} {r : (Int32 × ev_M)} (h : F_X3_in_15  s0 M = some r) (hq : Q 0 (.int r.1) r.2) : XP ev_prog b_X3_in_15 [z0, z1, z2] [.int s0] M Q := by
  unfold F_X3_in_15 at h
  refine x_kill.mpr ?_
  show XP ev_prog _ [jk, jk, jk] [.int s0] M Q
  obtain ⟨hc, h⟩ := gd h
  cases h
  exact (x_ireturnZ hc).mpr hq
def F_X3_in_14   (M : ev_M) : Option (Int32 × ev_M) := F_X3_in_15  (iI (0)) M
theorem sF_X3_in_14   {z0 : Value} {z1 : Value} {z2 : Value} {M : ev_M} {Q : Nat → Value → ev_M → Prop} {r : (Int32 × ev_M)} (h : F_X3_in_14   M = some r) (hq : Q 0 (.int r.1) r.2) : XP ev_prog b_X3_in_14 [z0, z1, z2] [] M Q := by
  unfold F_X3_in_14 at h
  refine x_kill.mpr ?_
  show XP ev_prog _ [jk, jk, jk] [] M Q
  refine x_iconst.mpr ?_
  refine x_fall.mpr ?_
  rw [bk_X3_in_15]
  exact sF_X3_in_15 h hq
def F_X3_in_0 (i0 : Int32) (i1 : Int32) (i2 : Int32)  (M : ev_M) : Option (Int32 × ev_M) := (if i0 < i1 then F_X3_in_14   M else (if i2 < i0 then F_X3_in_14   M else F_X3_in_15  (iI (1)) M))
theorem sF_X3_in_0 {i0 : Int32} {i1 : Int32} {i2 : Int32}   {M : ev_M} {Q : Nat → Value → ev_M → Prop} {r : (Int32 × ev_M)} (h : F_X3_in_0 i0 i1 i2  M = some r) (hq : Q 0 (.int r.1) r.2) : XP ev_prog b_X3_in_0 [.int i0, .int i1, .int i2] [] M Q := by
  unfold F_X3_in_0 at h
  refine x_iloadn0.mpr ?_
  refine x_iloadn1.mpr ?_
  rcases ife h with ⟨hc, h⟩ | ⟨hc, h⟩
  · rw [x_icmp_lt, if_pos hc, bk_X3_in_14]
    exact sF_X3_in_14 h hq
  · rw [x_icmp_lt, if_neg hc]
    refine x_iloadn0.mpr ?_
    refine x_iloadn2.mpr ?_
    rcases ife h with ⟨hc, h⟩ | ⟨hc, h⟩
    · rw [x_icmp_gt, if_pos hc, bk_X3_in_14]
      exact sF_X3_in_14 h hq
    · rw [x_icmp_gt, if_neg hc]
      refine x_iconst.mpr ?_
      refine x_goto.mpr ?_
      rw [bk_X3_in_15]
      exact sF_X3_in_15 h hq
def f_X3_in (i0 : Int32) (i1 : Int32) (i2 : Int32) (M : ev_M) : Option (Int32 × ev_M) := F_X3_in_0 i0 i1 i2 M
theorem sf_X3_in {i0 : Int32} {i1 : Int32} {i2 : Int32} {M : ev_M} {Q : Nat → Value → ev_M → Prop} {r : (Int32 × ev_M)} (h : f_X3_in i0 i1 i2 M = some r) (hq : Q 0 (.int r.1) r.2) : CX ev_prog 49 [.int i0, .int i1, .int i2] M Q := by
  rw [cx_open (ls := [.int i0, .int i1, .int i2]) bk_X3_in_0 rfl ml_X3_in rfl]
  exact sF_X3_in_0 h hq
def F_X3_isRow_0 (i0 : Int32)  (M : ev_M) : Option (Int32 × ev_M) := (f_X3_in i0 (iI (0)) (iI (5)) M).bind fun r3_1 => (if r3_1.1 = 0 ∨ r3_1.1 = 1 then some (r3_1.1, r3_1.2) else none)
theorem sF_X3_isRow_0 {i0 : Int32}   {M : ev_M} {Q : Nat → Value → ev_M → Prop} {r : (Int32 × ev_M)} (h : F_X3_isRow_0 i0  M = some r) (hq : Q 0 (.int r.1) r.2) : XP ev_prog b_X3_isRow_0 [.int i0] [] M Q := by
  unfold F_X3_isRow_0 at h
  refine x_iloadn0.mpr ?_
  refine x_iconst.mpr ?_
  refine x_iconst.mpr ?_
  obtain ⟨r3_1, hz, h⟩ := Option.bind_eq_some_iff.mp h
  refine (y_stat3 ml_X3_in (by show 3 ≤ 3; decide) (by decide) (by decide) (by show ¬ 8 < 0; decide)).mpr ?_
  refine sf_X3_in hz ?_
  refine xk0.mpr ?_
  show XP ev_prog _ _ (.int r3_1.1 :: _) r3_1.2 Q
  obtain ⟨hc, h⟩ := gd h
  cases h
  exact (x_ireturnZ hc).mpr hq
def f_X3_isRow (i0 : Int32) (M : ev_M) : Option (Int32 × ev_M) := F_X3_isRow_0 i0 M
theorem sf_X3_isRow {i0 : Int32} {M : ev_M} {Q : Nat → Value → ev_M → Prop} {r : (Int32 × ev_M)} (h : f_X3_isRow i0 M = some r) (hq : Q 0 (.int r.1) r.2) : CX ev_prog 50 [.int i0] M Q := by
  rw [cx_open (ls := [.int i0]) bk_X3_isRow_0 rfl ml_X3_isRow rfl]
  exact sF_X3_isRow_0 h hq
def F_X3_meets_0_p1 (i1 : Int32)  (M : ev_M) : Option (Int32 × ev_M) := some (((iI (-10)) - i1), M)
theorem sF_X3_meets_0_p1 {i1 : Int32}  {z0 : Value} {M : ev_M} {Q : Nat → Value → ev_M → Prop} {r : (Int32 × ev_M)} (h : F_X3_meets_0_p1 i1  M = some r) (hq : Q 0 (.int r.1) r.2) : XP ev_prog [((.bipush (-10), 2, []), []), ((.iload_n 1, 1, []), []), ((.isub, 1, []), []), ((.ireturn, 1, []), [])] [z0, .int i1] [] M Q := by
  unfold F_X3_meets_0_p1 at h
  refine (x_bipush (by decide)).mpr ?_
  refine x_iloadn1.mpr ?_
  refine (x_isub).mpr ?_
  cases h
  exact x_ireturn.mpr hq
def F_X3_meets_0 (a0 : Nat) (i1 : Int32)  (M : ev_M) : Option (Int32 × ev_M) := (if ([2] : List Nat).contains (mK M a0) = true then F_X3_meets_0_p1 i1  (wI M a0 4 i1) else none)
theorem sF_X3_meets_0 {a0 : Nat} {i1 : Int32}   {M : ev_M} {Q : Nat → Value → ev_M → Prop} {r : (Int32 × ev_M)} (h : F_X3_meets_0 a0 i1  M = some r) (hq : Q 0 (.int r.1) r.2) : XP ev_prog b_X3_meets_0 [.ref a0, .int i1] [] M Q := by
  unfold F_X3_meets_0 at h
  refine x_aloadn0.mpr ?_
  refine x_iloadn1.mpr ?_
  obtain ⟨hc, h⟩ := gd h
  refine (x_putf0 hc).mpr ?_
  exact sF_X3_meets_0_p1 h hq
def f_X3_meets (a0 : Nat) (i1 : Int32) (M : ev_M) : Option (Int32 × ev_M) := F_X3_meets_0 a0 i1 M
theorem sf_X3_meets {a0 : Nat} {i1 : Int32} {M : ev_M} {Q : Nat → Value → ev_M → Prop} {r : (Int32 × ev_M)} (h : f_X3_meets a0 i1 M = some r) (hq : Q 0 (.int r.1) r.2) : CX ev_prog 51 [.ref a0, .int i1] M Q := by
  rw [cx_open (ls := [.ref a0, .int i1]) bk_X3_meets_0 rfl ml_X3_meets rfl]
  exact sF_X3_meets_0 h hq
def F_X3_row_22   (M : ev_M) : Option (Int32 × ev_M) := some ((iI (-2)), M)
theorem sF_X3_row_22   {z0 : Value} {z1 : Value} {z2 : Value} {z3 : Value} {z4 : Value} {M : ev_M} {Q : Nat → Value → ev_M → Prop} {r : (Int32 × ev_M)} (h : F_X3_row_22   M = some r) (hq : Q 0 (.int r.1) r.2) : XP ev_prog b_X3_row_22 [z0, z1, z2, z3, z4] [] M Q := by
  unfold F_X3_row_22 at h
  refine x_kill.mpr ?_
  show XP ev_prog _ [jk, jk, jk, jk, jk] [] M Q
  refine (x_bipush (by decide)).mpr ?_
  cases h
  exact x_ireturn.mpr hq
def F_X3_row_91 (i3 : Int32)  (M : ev_M) : Option (Int32 × ev_M) := some (i3, M)
theorem sF_X3_row_91 {i3 : Int32}  {z0 : Value} {z1 : Value} {z2 : Value} {z4 : Value} {M : ev_M} {Q : Nat → Value → ev_M → Prop} {r : (Int32 × ev_M)} (h : F_X3_row_91 i3  M = some r) (hq : Q 0 (.int r.1) r.2) : XP ev_prog b_X3_row_91 [z0, z1, z2, .int i3, z4] [] M Q := by
  unfold F_X3_row_91 at h
  refine x_iloadn3.mpr ?_
  cases h
  exact x_ireturn.mpr hq
def F_X3_row_52_p3 (k52 : Nat → Int32 → Int32 → Int32 → ev_M → Option (Int32 × ev_M)) (a0 : Nat) (i1 : Int32) (i3 : Int32) (i4 : Int32)  (M : ev_M) : Option (Int32 × ev_M) := k52 a0 i1 i3 (i4 + iI (1)) M
theorem sF_X3_row_52_p3 {k52 : Nat → Int32 → Int32 → Int32 → ev_M → Option (Int32 × ev_M)} (hk52 : ∀ (a0 : Nat) (i1 : Int32) (i3 : Int32) (i4 : Int32) (M : ev_M) (r : (Int32 × ev_M)), k52 a0 i1 i3 i4 M = some r → ∀ (z2 : Value) (Q : Nat → Value → ev_M → Prop), Q 0 (.int r.1) r.2 → XP ev_prog b_X3_row_52 [.ref a0, .int i1, z2, .int i3, .int i4] [] M Q){a0 : Nat} {i1 : Int32} {i3 : Int32} {i4 : Int32}  {z2 : Value} {M : ev_M} {Q : Nat → Value → ev_M → Prop} {r : (Int32 × ev_M)} (h : F_X3_row_52_p3 k52 a0 i1 i3 i4  M = some r) (hq : Q 0 (.int r.1) r.2) : XP ev_prog [((.iinc 4 1, 3, []), []), ((.goto (-36), 3, [213044]), [])] [.ref a0, .int i1, z2, .int i3, .int i4] [] M Q := by
  unfold F_X3_row_52_p3 at h
  refine x_iinc4.mpr ?_
  refine x_goto.mpr ?_
  rw [bk_X3_row_52]
  exact hk52 _ _ _ _ _ _ _ h _ _ hq
def F_X3_row_52_p1 (k52 : Nat → Int32 → Int32 → Int32 → ev_M → Option (Int32 × ev_M)) (a0 : Nat) (i1 : Int32) (i3 : Int32) (i4 : Int32)  (M : ev_M) : Option (Int32 × ev_M) := (if ([2] : List Nat).contains (mK M a0) = true then (if mK M (mA M a0 3) = 40 ∧ ev_in (((iI (24)) * i1) + i4) (mN M (mA M a0 3)) = true then F_X3_row_52_p3 k52 a0 i1 i3 i4  (wI M (mA M a0 3) (ev_ix (((iI (24)) * i1) + i4)) (iI (-1))) else none) else none)
theorem sF_X3_row_52_p1 {k52 : Nat → Int32 → Int32 → Int32 → ev_M → Option (Int32 × ev_M)} (hk52 : ∀ (a0 : Nat) (i1 : Int32) (i3 : Int32) (i4 : Int32) (M : ev_M) (r : (Int32 × ev_M)), k52 a0 i1 i3 i4 M = some r → ∀ (z2 : Value) (Q : Nat → Value → ev_M → Prop), Q 0 (.int r.1) r.2 → XP ev_prog b_X3_row_52 [.ref a0, .int i1, z2, .int i3, .int i4] [] M Q){a0 : Nat} {i1 : Int32} {i3 : Int32} {i4 : Int32}  {z2 : Value} {M : ev_M} {Q : Nat → Value → ev_M → Prop} {r : (Int32 × ev_M)} (h : F_X3_row_52_p1 k52 a0 i1 i3 i4  M = some r) (hq : Q 0 (.int r.1) r.2) : XP ev_prog [((.aload_n 0, 1, []), []), ((.getfield 20, 3, [0, 4, 3, 2]), []), ((.bipush 24, 2, []), []), ((.iload_n 1, 1, []), []), ((.imul, 1, []), []), ((.iload 4, 2, []), []), ((.iadd, 1, []), []), ((.iconst (-1), 1, []), []), ((.iastore, 1, []), []), ((.iinc 4 1, 3, []), []), ((.goto (-36), 3, [213044]), [])] [.ref a0, .int i1, z2, .int i3, .int i4] [] M Q := by
  unfold F_X3_row_52_p1 at h
  refine x_aloadn0.mpr ?_
  obtain ⟨hc, h⟩ := gd h
  refine (x_getf4 hc).mpr ?_
  refine (x_bipush (by decide)).mpr ?_
  refine x_iloadn1.mpr ?_
  refine (x_imul).mpr ?_
  refine x_iload4.mpr ?_
  refine (x_iadd).mpr ?_
  refine x_iconst.mpr ?_
  obtain ⟨hc, h⟩ := gd h
  refine (x_iastore hc.1 hc.2).mpr ?_
  exact sF_X3_row_52_p3 hk52 h hq
def F_X3_row_52 (k52 : Nat → Int32 → Int32 → Int32 → ev_M → Option (Int32 × ev_M)) (a0 : Nat) (i1 : Int32) (i3 : Int32) (i4 : Int32)  (M : ev_M) : Option (Int32 × ev_M) := (if (iI (24)) ≤ i4 then F_X3_row_91 i3  M else (if ([2] : List Nat).contains (mK M a0) = true then (if mK M (mA M a0 2) = 43 ∧ ev_in (((iI (24)) * i1) + i4) (mN M (mA M a0 2)) = true then F_X3_row_52_p1 k52 a0 i1 i3 i4  (wD M (mA M a0 2) (ev_ix (((iI (24)) * i1) + i4)) FP.dconst0) else none) else none))
theorem sF_X3_row_52 {k52 : Nat → Int32 → Int32 → Int32 → ev_M → Option (Int32 × ev_M)} (hk52 : ∀ (a0 : Nat) (i1 : Int32) (i3 : Int32) (i4 : Int32) (M : ev_M) (r : (Int32 × ev_M)), k52 a0 i1 i3 i4 M = some r → ∀ (z2 : Value) (Q : Nat → Value → ev_M → Prop), Q 0 (.int r.1) r.2 → XP ev_prog b_X3_row_52 [.ref a0, .int i1, z2, .int i3, .int i4] [] M Q){a0 : Nat} {i1 : Int32} {i3 : Int32} {i4 : Int32}  {z2 : Value} {M : ev_M} {Q : Nat → Value → ev_M → Prop} {r : (Int32 × ev_M)} (h : F_X3_row_52 k52 a0 i1 i3 i4  M = some r) (hq : Q 0 (.int r.1) r.2) : XP ev_prog b_X3_row_52 [.ref a0, .int i1, z2, .int i3, .int i4] [] M Q := by
  unfold F_X3_row_52 at h
  refine x_kill.mpr ?_
  show XP ev_prog _ [.ref a0, .int i1, jk, .int i3, .int i4] [] M Q
  refine x_iload4.mpr ?_
  refine (x_bipush (by decide)).mpr ?_
  rcases ife h with ⟨hc, h⟩ | ⟨hc, h⟩
  · rw [x_icmp_ge, if_pos hc, bk_X3_row_91]
    exact sF_X3_row_91 h hq
  · rw [x_icmp_ge, if_neg hc]
    refine x_aloadn0.mpr ?_
    obtain ⟨hc, h⟩ := gd h
    refine (x_getf4 hc).mpr ?_
    refine (x_bipush (by decide)).mpr ?_
    refine x_iloadn1.mpr ?_
    refine (x_imul).mpr ?_
    refine x_iload4.mpr ?_
    refine (x_iadd).mpr ?_
    refine x_dconst0.mpr ?_
    obtain ⟨hc, h⟩ := gd h
    refine (x_dastore hc.1 hc.2).mpr ?_
    exact sF_X3_row_52_p1 hk52 h hq
def W_X3_row_52 : Nat → Nat → Int32 → Int32 → Int32 → ev_M → Option (Int32 × ev_M)
  | 0 => fun _ => fun _ => fun _ => fun _ => fun _ => none
  | n + 1 => fun a0 i1 i3 i4 M => F_X3_row_52 (W_X3_row_52 n) a0 i1 i3 i4 M
theorem sW_X3_row_52  : ∀ (n : Nat) {a0 : Nat} {i1 : Int32} {i3 : Int32} {i4 : Int32} {M : ev_M} {r : (Int32 × ev_M)} (h : W_X3_row_52 n a0 i1 i3 i4 M = some r) {z2 : Value} {Q : Nat → Value → ev_M → Prop} (hq : Q 0 (.int r.1) r.2), XP ev_prog b_X3_row_52 [.ref a0, .int i1, z2, .int i3, .int i4] [] M Q := by
  intro n
  induction n with
  | zero => intro a0 i1 i3 i4 M r h; cases h
  | succ n ih => intro a0 i1 i3 i4 M r h z2 Q hq; exact sF_X3_row_52 (fun a0 i1 i3 i4 M r h z2 Q hq => ih h hq) h hq
def F_X3_row_35_p3 (a0 : Nat) (i1 : Int32) (i3 : Int32)  (M : ev_M) : Option (Int32 × ev_M) := W_X3_row_52 5000 a0 i1 i3 (iI (0)) M
theorem sF_X3_row_35_p3 {a0 : Nat} {i1 : Int32} {i3 : Int32}  {z2 : Value} {z4 : Value} {M : ev_M} {Q : Nat → Value → ev_M → Prop} {r : (Int32 × ev_M)} (h : F_X3_row_35_p3 a0 i1 i3  M = some r) (hq : Q 0 (.int r.1) r.2) : XP ev_prog [((.iconst 0, 1, []), []), ((.istore 4, 2, []), []), ((.nop, 0, [0, 213044]), [])] [.ref a0, .int i1, z2, .int i3, z4] [] M Q := by
  unfold F_X3_row_35_p3 at h
  refine x_iconst.mpr ?_
  refine x_istore4.mpr ?_
  refine x_fall.mpr ?_
  rw [bk_X3_row_52]
  exact sW_X3_row_52 5000 h hq
def F_X3_row_35_p1 (a0 : Nat) (i1 : Int32) (i3 : Int32)  (M : ev_M) : Option (Int32 × ev_M) := (if ([2] : List Nat).contains (mK M a0) = true then (if mK M (mA M a0 1) = 40 ∧ ev_in i1 (mN M (mA M a0 1)) = true then F_X3_row_35_p3 a0 i1 i3  (wI M (mA M a0 1) (ev_ix i1) i3) else none) else none)
theorem sF_X3_row_35_p1 {a0 : Nat} {i1 : Int32} {i3 : Int32}  {z2 : Value} {z4 : Value} {M : ev_M} {Q : Nat → Value → ev_M → Prop} {r : (Int32 × ev_M)} (h : F_X3_row_35_p1 a0 i1 i3  M = some r) (hq : Q 0 (.int r.1) r.2) : XP ev_prog [((.aload_n 0, 1, []), []), ((.getfield 13, 3, [0, 4, 1, 2]), []), ((.iload_n 1, 1, []), []), ((.iload_n 3, 1, []), []), ((.iastore, 1, []), []), ((.iconst 0, 1, []), []), ((.istore 4, 2, []), []), ((.nop, 0, [0, 213044]), [])] [.ref a0, .int i1, z2, .int i3, z4] [] M Q := by
  unfold F_X3_row_35_p1 at h
  refine x_aloadn0.mpr ?_
  obtain ⟨hc, h⟩ := gd h
  refine (x_getf4 hc).mpr ?_
  refine x_iloadn1.mpr ?_
  refine x_iloadn3.mpr ?_
  obtain ⟨hc, h⟩ := gd h
  refine (x_iastore hc.1 hc.2).mpr ?_
  exact sF_X3_row_35_p3 h hq
def F_X3_row_35 (a0 : Nat) (i1 : Int32) (i2 : Int32) (i3 : Int32)  (M : ev_M) : Option (Int32 × ev_M) := (if ([2] : List Nat).contains (mK M a0) = true then (if mK M (mA M a0 0) = 40 ∧ ev_in i1 (mN M (mA M a0 0)) = true then F_X3_row_35_p1 a0 i1 i3  (wI M (mA M a0 0) (ev_ix i1) i2) else none) else none)
theorem sF_X3_row_35 {a0 : Nat} {i1 : Int32} {i2 : Int32} {i3 : Int32}  {z4 : Value} {M : ev_M} {Q : Nat → Value → ev_M → Prop} {r : (Int32 × ev_M)} (h : F_X3_row_35 a0 i1 i2 i3  M = some r) (hq : Q 0 (.int r.1) r.2) : XP ev_prog b_X3_row_35 [.ref a0, .int i1, .int i2, .int i3, z4] [] M Q := by
  unfold F_X3_row_35 at h
  refine x_aloadn0.mpr ?_
  obtain ⟨hc, h⟩ := gd h
  refine (x_getf4 hc).mpr ?_
  refine x_iloadn1.mpr ?_
  refine x_iloadn2.mpr ?_
  obtain ⟨hc, h⟩ := gd h
  refine (x_iastore hc.1 hc.2).mpr ?_
  exact sF_X3_row_35_p1 h hq
def F_X3_row_25 (a0 : Nat) (i1 : Int32) (i2 : Int32) (i3 : Int32)  (M : ev_M) : Option (Int32 × ev_M) := (if 0 ≤ i3 then F_X3_row_35 a0 i1 i2 i3  M else (if ¬ a0 = 0 ∧ mK M a0 = 2 then (f_X3_meets a0 (iI (5)) M).bind fun r31_1 => some (r31_1.1, r31_1.2) else none))
theorem sF_X3_row_25 {a0 : Nat} {i1 : Int32} {i2 : Int32} {i3 : Int32}  {z4 : Value} {M : ev_M} {Q : Nat → Value → ev_M → Prop} {r : (Int32 × ev_M)} (h : F_X3_row_25 a0 i1 i2 i3  M = some r) (hq : Q 0 (.int r.1) r.2) : XP ev_prog b_X3_row_25 [.ref a0, .int i1, .int i2, .int i3, z4] [] M Q := by
  unfold F_X3_row_25 at h
  refine x_iloadn3.mpr ?_
  rcases ife h with ⟨hc, h⟩ | ⟨hc, h⟩
  · rw [x_if_ge, if_pos hc, bk_X3_row_35]
    exact sF_X3_row_35 h hq
  · rw [x_if_ge, if_neg hc]
    refine x_aloadn0.mpr ?_
    refine x_iconst.mpr ?_
    obtain ⟨hc, h⟩ := gd h
    obtain ⟨r31_1, hz, h⟩ := Option.bind_eq_some_iff.mp h
    refine (y_virt2 ml_X3_meets (by show 2 ≤ 2; decide) hc.1 hc.2 rfl (by decide) (by show ¬ 8 < 0; decide)).mpr ?_
    refine sf_X3_meets hz ?_
    refine xk0.mpr ?_
    show XP ev_prog _ _ (.int r31_1.1 :: _) r31_1.2 Q
    cases h
    exact x_ireturn.mpr hq
def F_X3_row_0 (a0 : Nat) (i1 : Int32) (i2 : Int32) (i3 : Int32)  (M : ev_M) : Option (Int32 × ev_M) := (f_X3_isRow i1 M).bind fun r1_1 => (if r1_1.1 = 0 then F_X3_row_22   r1_1.2 else (f_X3_in i2 (iI (0)) (iI (4)) r1_1.2).bind fun r10_1 => (if r10_1.1 = 0 then F_X3_row_22   r10_1.2 else (if i3 ≤ (iI (24)) then F_X3_row_25 a0 i1 i2 i3  r10_1.2 else F_X3_row_22   r10_1.2)))
theorem sF_X3_row_0 {a0 : Nat} {i1 : Int32} {i2 : Int32} {i3 : Int32}  {z4 : Value} {M : ev_M} {Q : Nat → Value → ev_M → Prop} {r : (Int32 × ev_M)} (h : F_X3_row_0 a0 i1 i2 i3  M = some r) (hq : Q 0 (.int r.1) r.2) : XP ev_prog b_X3_row_0 [.ref a0, .int i1, .int i2, .int i3, z4] [] M Q := by
  unfold F_X3_row_0 at h
  refine x_iloadn1.mpr ?_
  obtain ⟨r1_1, hz, h⟩ := Option.bind_eq_some_iff.mp h
  refine (y_stat1 ml_X3_isRow (by show 1 ≤ 1; decide) (by decide) (by decide) (by show ¬ 8 < 0; decide)).mpr ?_
  refine sf_X3_isRow hz ?_
  refine xk0.mpr ?_
  show XP ev_prog _ _ (.int r1_1.1 :: _) r1_1.2 Q
  rcases ife h with ⟨hc, h⟩ | ⟨hc, h⟩
  · rw [x_if_eq, if_pos hc, bk_X3_row_22]
    exact sF_X3_row_22 h hq
  · rw [x_if_eq, if_neg hc]
    refine x_iloadn2.mpr ?_
    refine x_iconst.mpr ?_
    refine x_iconst.mpr ?_
    obtain ⟨r10_1, hz, h⟩ := Option.bind_eq_some_iff.mp h
    refine (y_stat3 ml_X3_in (by show 3 ≤ 3; decide) (by decide) (by decide) (by show ¬ 8 < 0; decide)).mpr ?_
    refine sf_X3_in hz ?_
    refine xk0.mpr ?_
    show XP ev_prog _ _ (.int r10_1.1 :: _) r10_1.2 Q
    rcases ife h with ⟨hc, h⟩ | ⟨hc, h⟩
    · rw [x_if_eq, if_pos hc, bk_X3_row_22]
      exact sF_X3_row_22 h hq
    · rw [x_if_eq, if_neg hc]
      refine x_iloadn3.mpr ?_
      refine (x_bipush (by decide)).mpr ?_
      rcases ife h with ⟨hc, h⟩ | ⟨hc, h⟩
      · rw [x_icmp_le, if_pos hc, bk_X3_row_25]
        exact sF_X3_row_25 h hq
      · rw [x_icmp_le, if_neg hc]
        refine x_fall.mpr ?_
        rw [bk_X3_row_22]
        exact sF_X3_row_22 h hq
def f_X3_row (a0 : Nat) (i1 : Int32) (i2 : Int32) (i3 : Int32) (M : ev_M) : Option (Int32 × ev_M) := F_X3_row_0 a0 i1 i2 i3 M
theorem sf_X3_row {a0 : Nat} {i1 : Int32} {i2 : Int32} {i3 : Int32} {M : ev_M} {Q : Nat → Value → ev_M → Prop} {r : (Int32 × ev_M)} (h : f_X3_row a0 i1 i2 i3 M = some r) (hq : Q 0 (.int r.1) r.2) : CX ev_prog 52 [.ref a0, .int i1, .int i2, .int i3] M Q := by
  rw [cx_open (ls := [.ref a0, .int i1, .int i2, .int i3, jk]) bk_X3_row_0 rfl ml_X3_row rfl]
  exact sF_X3_row_0 h hq
def F_X3_lose_59 (a0 : Nat) (i1 : Int32)  (M : ev_M) : Option (Int32 × ev_M) := (if ([2] : List Nat).contains (mK M a0) = true then (if ev_isI (mK M (mA M a0 1)) = true ∧ ev_in i1 (mN M (mA M a0 1)) = true then some ((mI M (mA M a0 1) (ev_ix i1)), M) else none) else none)
theorem sF_X3_lose_59 {a0 : Nat} {i1 : Int32}  {z2 : Value} {M : ev_M} {Q : Nat → Value → ev_M → Prop} {r : (Int32 × ev_M)} (h : F_X3_lose_59 a0 i1  M = some r) (hq : Q 0 (.int r.1) r.2) : XP ev_prog b_X3_lose_59 [.ref a0, .int i1, z2] [] M Q := by
  unfold F_X3_lose_59 at h
  refine x_aloadn0.mpr ?_
  obtain ⟨hc, h⟩ := gd h
  refine (x_getf4 hc).mpr ?_
  refine x_iloadn1.mpr ?_
  obtain ⟨hc, h⟩ := gd h
  refine (x_iaload hc.1 hc.2).mpr ?_
  cases h
  exact x_ireturn.mpr hq
def F_X3_lose_35_p1 (k35 : Nat → Int32 → Int32 → ev_M → Option (Int32 × ev_M)) (a0 : Nat) (i1 : Int32) (i2 : Int32)  (M : ev_M) : Option (Int32 × ev_M) := k35 a0 i1 (i2 + iI (1)) M
theorem sF_X3_lose_35_p1 {k35 : Nat → Int32 → Int32 → ev_M → Option (Int32 × ev_M)} (hk35 : ∀ (a0 : Nat) (i1 : Int32) (i2 : Int32) (M : ev_M) (r : (Int32 × ev_M)), k35 a0 i1 i2 M = some r → ∀ (Q : Nat → Value → ev_M → Prop), Q 0 (.int r.1) r.2 → XP ev_prog b_X3_lose_35 [.ref a0, .int i1, .int i2] [] M Q){a0 : Nat} {i1 : Int32} {i2 : Int32}   {M : ev_M} {Q : Nat → Value → ev_M → Prop} {r : (Int32 × ev_M)} (h : F_X3_lose_35_p1 k35 a0 i1 i2  M = some r) (hq : Q 0 (.int r.1) r.2) : XP ev_prog [((.iinc 2 1, 3, []), []), ((.goto (-21), 3, [221219]), [])] [.ref a0, .int i1, .int i2] [] M Q := by
  unfold F_X3_lose_35_p1 at h
  refine x_iinc2.mpr ?_
  refine x_goto.mpr ?_
  rw [bk_X3_lose_35]
  exact hk35 _ _ _ _ _ _ h _ hq
def F_X3_lose_35 (k35 : Nat → Int32 → Int32 → ev_M → Option (Int32 × ev_M)) (a0 : Nat) (i1 : Int32) (i2 : Int32)  (M : ev_M) : Option (Int32 × ev_M) := (if (iI (24)) ≤ i2 then F_X3_lose_59 a0 i1  M else (if ([2] : List Nat).contains (mK M a0) = true then (if mK M (mA M a0 3) = 40 ∧ ev_in (((iI (24)) * i1) + i2) (mN M (mA M a0 3)) = true then F_X3_lose_35_p1 k35 a0 i1 i2  (wI M (mA M a0 3) (ev_ix (((iI (24)) * i1) + i2)) (iI (-1))) else none) else none))
theorem sF_X3_lose_35 {k35 : Nat → Int32 → Int32 → ev_M → Option (Int32 × ev_M)} (hk35 : ∀ (a0 : Nat) (i1 : Int32) (i2 : Int32) (M : ev_M) (r : (Int32 × ev_M)), k35 a0 i1 i2 M = some r → ∀ (Q : Nat → Value → ev_M → Prop), Q 0 (.int r.1) r.2 → XP ev_prog b_X3_lose_35 [.ref a0, .int i1, .int i2] [] M Q){a0 : Nat} {i1 : Int32} {i2 : Int32}   {M : ev_M} {Q : Nat → Value → ev_M → Prop} {r : (Int32 × ev_M)} (h : F_X3_lose_35 k35 a0 i1 i2  M = some r) (hq : Q 0 (.int r.1) r.2) : XP ev_prog b_X3_lose_35 [.ref a0, .int i1, .int i2] [] M Q := by
  unfold F_X3_lose_35 at h
  refine x_iloadn2.mpr ?_
  refine (x_bipush (by decide)).mpr ?_
  rcases ife h with ⟨hc, h⟩ | ⟨hc, h⟩
  · rw [x_icmp_ge, if_pos hc, bk_X3_lose_59]
    exact sF_X3_lose_59 h hq
  · rw [x_icmp_ge, if_neg hc]
    refine x_aloadn0.mpr ?_
    obtain ⟨hc, h⟩ := gd h
    refine (x_getf4 hc).mpr ?_
    refine (x_bipush (by decide)).mpr ?_
    refine x_iloadn1.mpr ?_
    refine (x_imul).mpr ?_
    refine x_iloadn2.mpr ?_
    refine (x_iadd).mpr ?_
    refine x_iconst.mpr ?_
    obtain ⟨hc, h⟩ := gd h
    refine (x_iastore hc.1 hc.2).mpr ?_
    exact sF_X3_lose_35_p1 hk35 h hq
def W_X3_lose_35 : Nat → Nat → Int32 → Int32 → ev_M → Option (Int32 × ev_M)
  | 0 => fun _ => fun _ => fun _ => fun _ => none
  | n + 1 => fun a0 i1 i2 M => F_X3_lose_35 (W_X3_lose_35 n) a0 i1 i2 M
theorem sW_X3_lose_35  : ∀ (n : Nat) {a0 : Nat} {i1 : Int32} {i2 : Int32} {M : ev_M} {r : (Int32 × ev_M)} (h : W_X3_lose_35 n a0 i1 i2 M = some r)  {Q : Nat → Value → ev_M → Prop} (hq : Q 0 (.int r.1) r.2), XP ev_prog b_X3_lose_35 [.ref a0, .int i1, .int i2] [] M Q := by
  intro n
  induction n with
  | zero => intro a0 i1 i2 M r h; cases h
  | succ n ih => intro a0 i1 i2 M r h  Q hq; exact sF_X3_lose_35 (fun a0 i1 i2 M r h  Q hq => ih h hq) h hq
def F_X3_lose_26_p1 (a0 : Nat) (i1 : Int32)  (M : ev_M) : Option (Int32 × ev_M) := W_X3_lose_35 5000 a0 i1 (iI (0)) M
theorem sF_X3_lose_26_p1 {a0 : Nat} {i1 : Int32}  {z2 : Value} {M : ev_M} {Q : Nat → Value → ev_M → Prop} {r : (Int32 × ev_M)} (h : F_X3_lose_26_p1 a0 i1  M = some r) (hq : Q 0 (.int r.1) r.2) : XP ev_prog [((.iconst 0, 1, []), []), ((.istore_n 2, 1, []), []), ((.nop, 0, [0, 221219]), [])] [.ref a0, .int i1, z2] [] M Q := by
  unfold F_X3_lose_26_p1 at h
  refine x_iconst.mpr ?_
  refine x_istoren2.mpr ?_
  refine x_fall.mpr ?_
  rw [bk_X3_lose_35]
  exact sW_X3_lose_35 5000 h hq
def F_X3_lose_26 (a0 : Nat) (i1 : Int32)  (M : ev_M) : Option (Int32 × ev_M) := (if ([2] : List Nat).contains (mK M a0) = true then (if mK M (mA M a0 0) = 40 ∧ ev_in i1 (mN M (mA M a0 0)) = true then F_X3_lose_26_p1 a0 i1  (wI M (mA M a0 0) (ev_ix i1) (iI (-1))) else none) else none)
theorem sF_X3_lose_26 {a0 : Nat} {i1 : Int32}  {z2 : Value} {M : ev_M} {Q : Nat → Value → ev_M → Prop} {r : (Int32 × ev_M)} (h : F_X3_lose_26 a0 i1  M = some r) (hq : Q 0 (.int r.1) r.2) : XP ev_prog b_X3_lose_26 [.ref a0, .int i1, z2] [] M Q := by
  unfold F_X3_lose_26 at h
  refine x_aloadn0.mpr ?_
  obtain ⟨hc, h⟩ := gd h
  refine (x_getf4 hc).mpr ?_
  refine x_iloadn1.mpr ?_
  refine x_iconst.mpr ?_
  obtain ⟨hc, h⟩ := gd h
  refine (x_iastore hc.1 hc.2).mpr ?_
  exact sF_X3_lose_26_p1 h hq
def F_X3_lose_10 (a0 : Nat) (i1 : Int32)  (M : ev_M) : Option (Int32 × ev_M) := (if ([2] : List Nat).contains (mK M a0) = true then (if ev_isI (mK M (mA M a0 0)) = true ∧ ev_in i1 (mN M (mA M a0 0)) = true then (if ¬ (mI M (mA M a0 0) (ev_ix i1)) = (iI (-1)) then F_X3_lose_26 a0 i1  M else (if ¬ a0 = 0 ∧ mK M a0 = 2 then (f_X3_meets a0 (iI (1)) M).bind fun r22_1 => some (r22_1.1, r22_1.2) else none)) else none) else none)
theorem sF_X3_lose_10 {a0 : Nat} {i1 : Int32}  {z2 : Value} {M : ev_M} {Q : Nat → Value → ev_M → Prop} {r : (Int32 × ev_M)} (h : F_X3_lose_10 a0 i1  M = some r) (hq : Q 0 (.int r.1) r.2) : XP ev_prog b_X3_lose_10 [.ref a0, .int i1, z2] [] M Q := by
  unfold F_X3_lose_10 at h
  refine x_aloadn0.mpr ?_
  obtain ⟨hc, h⟩ := gd h
  refine (x_getf4 hc).mpr ?_
  refine x_iloadn1.mpr ?_
  obtain ⟨hc, h⟩ := gd h
  refine (x_iaload hc.1 hc.2).mpr ?_
  refine x_iconst.mpr ?_
  rcases ife h with ⟨hc, h⟩ | ⟨hc, h⟩
  · rw [x_icmp_ne, if_pos hc, bk_X3_lose_26]
    exact sF_X3_lose_26 h hq
  · rw [x_icmp_ne, if_neg hc]
    refine x_aloadn0.mpr ?_
    refine x_iconst.mpr ?_
    obtain ⟨hc, h⟩ := gd h
    obtain ⟨r22_1, hz, h⟩ := Option.bind_eq_some_iff.mp h
    refine (y_virt2 ml_X3_meets (by show 2 ≤ 2; decide) hc.1 hc.2 rfl (by decide) (by show ¬ 8 < 0; decide)).mpr ?_
    refine sf_X3_meets hz ?_
    refine xk0.mpr ?_
    show XP ev_prog _ _ (.int r22_1.1 :: _) r22_1.2 Q
    cases h
    exact x_ireturn.mpr hq
def F_X3_lose_0 (a0 : Nat) (i1 : Int32)  (M : ev_M) : Option (Int32 × ev_M) := (f_X3_isRow i1 M).bind fun r1_1 => (if ¬ r1_1.1 = 0 then F_X3_lose_10 a0 i1  r1_1.2 else some ((iI (-2)), r1_1.2))
theorem sF_X3_lose_0 {a0 : Nat} {i1 : Int32}  {z2 : Value} {M : ev_M} {Q : Nat → Value → ev_M → Prop} {r : (Int32 × ev_M)} (h : F_X3_lose_0 a0 i1  M = some r) (hq : Q 0 (.int r.1) r.2) : XP ev_prog b_X3_lose_0 [.ref a0, .int i1, z2] [] M Q := by
  unfold F_X3_lose_0 at h
  refine x_iloadn1.mpr ?_
  obtain ⟨r1_1, hz, h⟩ := Option.bind_eq_some_iff.mp h
  refine (y_stat1 ml_X3_isRow (by show 1 ≤ 1; decide) (by decide) (by decide) (by show ¬ 8 < 0; decide)).mpr ?_
  refine sf_X3_isRow hz ?_
  refine xk0.mpr ?_
  show XP ev_prog _ _ (.int r1_1.1 :: _) r1_1.2 Q
  rcases ife h with ⟨hc, h⟩ | ⟨hc, h⟩
  · rw [x_if_ne, if_pos hc, bk_X3_lose_10]
    exact sF_X3_lose_10 h hq
  · rw [x_if_ne, if_neg hc]
    refine (x_bipush (by decide)).mpr ?_
    cases h
    exact x_ireturn.mpr hq
def f_X3_lose (a0 : Nat) (i1 : Int32) (M : ev_M) : Option (Int32 × ev_M) := F_X3_lose_0 a0 i1 M
theorem sf_X3_lose {a0 : Nat} {i1 : Int32} {M : ev_M} {Q : Nat → Value → ev_M → Prop} {r : (Int32 × ev_M)} (h : f_X3_lose a0 i1 M = some r) (hq : Q 0 (.int r.1) r.2) : CX ev_prog 54 [.ref a0, .int i1] M Q := by
  rw [cx_open (ls := [.ref a0, .int i1, jk]) bk_X3_lose_0 rfl ml_X3_lose rfl]
  exact sF_X3_lose_0 h hq
def F_X3_put_16   (M : ev_M) : Option (Int32 × ev_M) := some ((iI (-2)), M)
theorem sF_X3_put_16   {z0 : Value} {z1 : Value} {z2 : Value} {z3 : Value} {z4 : Value} {z5 : Value} {M : ev_M} {Q : Nat → Value → ev_M → Prop} {r : (Int32 × ev_M)} (h : F_X3_put_16   M = some r) (hq : Q 0 (.int r.1) r.2) : XP ev_prog b_X3_put_16 [z0, z1, z2, z3, z4, z5] [] M Q := by
  unfold F_X3_put_16 at h
  refine x_kill.mpr ?_
  show XP ev_prog _ [jk, jk, jk, jk, jk, jk] [] M Q
  refine (x_bipush (by decide)).mpr ?_
  cases h
  exact x_ireturn.mpr hq
def F_X3_put_149_p1   (M : ev_M) : Option (Int32 × ev_M) := some ((iI (1)), M)
theorem sF_X3_put_149_p1   {z0 : Value} {z1 : Value} {z2 : Value} {z3 : Value} {z4 : Value} {z5 : Value} {M : ev_M} {Q : Nat → Value → ev_M → Prop} {r : (Int32 × ev_M)} (h : F_X3_put_149_p1   M = some r) (hq : Q 0 (.int r.1) r.2) : XP ev_prog [((.iconst 1, 1, []), []), ((.ireturn, 1, []), [])] [z0, z1, z2, z3, z4, z5] [] M Q := by
  unfold F_X3_put_149_p1 at h
  refine x_iconst.mpr ?_
  cases h
  exact x_ireturn.mpr hq
def F_X3_put_149  (s0 : UInt64) (s1 : Int32) (s2 : Nat) (M : ev_M) : Option (Int32 × ev_M) := (if mK M s2 = 43 ∧ ev_in s1 (mN M s2) = true then F_X3_put_149_p1   (wD M s2 (ev_ix s1) s0) else none)
theorem sF_X3_put_149  {s0 : UInt64} {s1 : Int32} {s2 : Nat} {z0 : Value} {z1 : Value} {z2 : Value} {z3 : Value} {z4 : Value} {z5 : Value} {M : ev_M} {Q : Nat → Value → ev_M → Prop} {r : (Int32 × ev_M)} (h : F_X3_put_149  s0 s1 s2 M = some r) (hq : Q 0 (.int r.1) r.2) : XP ev_prog b_X3_put_149 [z0, z1, z2, z3, z4, z5] [.double s0, .int s1, .ref s2] M Q := by
  unfold F_X3_put_149 at h
  refine x_kill.mpr ?_
  show XP ev_prog _ [jk, jk, jk, jk, jk, jk] [.double s0, .int s1, .ref s2] M Q
  obtain ⟨hc, h⟩ := gd h
  refine (x_dastore hc.1 hc.2).mpr ?_
  exact sF_X3_put_149_p1 h hq
def F_X3_put_144 (i4 : Int32) (s0 : Int32) (s1 : Nat) (M : ev_M) : Option (Int32 × ev_M) := F_X3_put_149  (FP.i2d (i4 &&& (iI (1)))) s0 s1 M
theorem sF_X3_put_144 {i4 : Int32} {s0 : Int32} {s1 : Nat} {z0 : Value} {z1 : Value} {z2 : Value} {z3 : Value} {z5 : Value} {M : ev_M} {Q : Nat → Value → ev_M → Prop} {r : (Int32 × ev_M)} (h : F_X3_put_144 i4 s0 s1 M = some r) (hq : Q 0 (.int r.1) r.2) : XP ev_prog b_X3_put_144 [z0, z1, z2, z3, .int i4, z5] [.int s0, .ref s1] M Q := by
  unfold F_X3_put_144 at h
  refine x_iload4.mpr ?_
  refine x_iconst.mpr ?_
  refine (x_iand).mpr ?_
  refine (x_i2d).mpr ?_
  refine x_fall.mpr ?_
  rw [bk_X3_put_149]
  exact sF_X3_put_149 h hq
def F_X3_put_129 (i2 : Int32) (i4 : Int32) (s0 : Int32) (s1 : Nat) (M : ev_M) : Option (Int32 × ev_M) := (if ¬ i2 = (iI (3)) then F_X3_put_144 i4 s0 s1 M else (if FP.ddiv (FP.i2d i4) (UInt64.ofNat 4620693217682128896) &&& 0x7fffffffffffffff ≤ 0x7ff0000000000000 then F_X3_put_149  (FP.ddiv (FP.i2d i4) (UInt64.ofNat 4620693217682128896)) s0 s1 M else none))
theorem sF_X3_put_129 {i2 : Int32} {i4 : Int32} {s0 : Int32} {s1 : Nat} {z0 : Value} {z1 : Value} {z3 : Value} {z5 : Value} {M : ev_M} {Q : Nat → Value → ev_M → Prop} {r : (Int32 × ev_M)} (h : F_X3_put_129 i2 i4 s0 s1 M = some r) (hq : Q 0 (.int r.1) r.2) : XP ev_prog b_X3_put_129 [z0, z1, .int i2, z3, .int i4, z5] [.int s0, .ref s1] M Q := by
  unfold F_X3_put_129 at h
  refine x_iloadn2.mpr ?_
  refine x_iconst.mpr ?_
  rcases ife h with ⟨hc, h⟩ | ⟨hc, h⟩
  · rw [x_icmp_ne, if_pos hc, bk_X3_put_144]
    exact sF_X3_put_144 h hq
  · rw [x_icmp_ne, if_neg hc]
    refine x_iload4.mpr ?_
    refine (x_i2d).mpr ?_
    refine x_ldc2D.mpr ?_
    obtain ⟨hc, h⟩ := gd h
    refine (x_ddiv hc).mpr ?_
    refine x_goto.mpr ?_
    rw [bk_X3_put_149]
    exact sF_X3_put_149 h hq
def F_X3_put_114 (i2 : Int32) (i4 : Int32) (s0 : Int32) (s1 : Nat) (M : ev_M) : Option (Int32 × ev_M) := (if ¬ i2 = (iI (2)) then F_X3_put_129 i2 i4 s0 s1 M else (if FP.fdiv (FP.i2f i4) (UInt32.ofNat 1090519040) &&& 0x7fffffff ≤ 0x7f800000 then (if FP.f2d (FP.fdiv (FP.i2f i4) (UInt32.ofNat 1090519040)) &&& 0x7fffffffffffffff ≤ 0x7ff0000000000000 then F_X3_put_149  (FP.f2d (FP.fdiv (FP.i2f i4) (UInt32.ofNat 1090519040))) s0 s1 M else none) else none))
theorem sF_X3_put_114 {i2 : Int32} {i4 : Int32} {s0 : Int32} {s1 : Nat} {z0 : Value} {z1 : Value} {z3 : Value} {z5 : Value} {M : ev_M} {Q : Nat → Value → ev_M → Prop} {r : (Int32 × ev_M)} (h : F_X3_put_114 i2 i4 s0 s1 M = some r) (hq : Q 0 (.int r.1) r.2) : XP ev_prog b_X3_put_114 [z0, z1, .int i2, z3, .int i4, z5] [.int s0, .ref s1] M Q := by
  unfold F_X3_put_114 at h
  refine x_iloadn2.mpr ?_
  refine x_iconst.mpr ?_
  rcases ife h with ⟨hc, h⟩ | ⟨hc, h⟩
  · rw [x_icmp_ne, if_pos hc, bk_X3_put_129]
    exact sF_X3_put_129 h hq
  · rw [x_icmp_ne, if_neg hc]
    refine x_iload4.mpr ?_
    refine (x_i2f).mpr ?_
    refine x_ldcF.mpr ?_
    obtain ⟨hc, h⟩ := gd h
    refine (x_fdiv hc).mpr ?_
    obtain ⟨hc, h⟩ := gd h
    refine (x_f2d hc).mpr ?_
    refine x_goto.mpr ?_
    rw [bk_X3_put_149]
    exact sF_X3_put_149 h hq
def F_X3_put_103 (i2 : Int32) (i4 : Int32) (s0 : Int32) (s1 : Nat) (M : ev_M) : Option (Int32 × ev_M) := (if ¬ i2 = (iI (1)) then F_X3_put_114 i2 i4 s0 s1 M else F_X3_put_149  (FP.i2d i4) s0 s1 M)
theorem sF_X3_put_103 {i2 : Int32} {i4 : Int32} {s0 : Int32} {s1 : Nat} {z0 : Value} {z1 : Value} {z3 : Value} {z5 : Value} {M : ev_M} {Q : Nat → Value → ev_M → Prop} {r : (Int32 × ev_M)} (h : F_X3_put_103 i2 i4 s0 s1 M = some r) (hq : Q 0 (.int r.1) r.2) : XP ev_prog b_X3_put_103 [z0, z1, .int i2, z3, .int i4, z5] [.int s0, .ref s1] M Q := by
  unfold F_X3_put_103 at h
  refine x_iloadn2.mpr ?_
  refine x_iconst.mpr ?_
  rcases ife h with ⟨hc, h⟩ | ⟨hc, h⟩
  · rw [x_icmp_ne, if_pos hc, bk_X3_put_114]
    exact sF_X3_put_114 h hq
  · rw [x_icmp_ne, if_neg hc]
    refine x_iload4.mpr ?_
    refine (x_i2d).mpr ?_
    refine x_goto.mpr ?_
    rw [bk_X3_put_149]
    exact sF_X3_put_149 h hq
def F_X3_put_82 (a0 : Nat) (i1 : Int32) (i2 : Int32) (i3 : Int32) (i4 : Int32)  (M : ev_M) : Option (Int32 × ev_M) := (if ([2] : List Nat).contains (mK M a0) = true then (if ¬ i2 = 0 then F_X3_put_103 i2 i4 (((iI (24)) * i1) + i3) (mA M a0 2) M else F_X3_put_149  (FP.i2d (i4).toInt16.toInt32) (((iI (24)) * i1) + i3) (mA M a0 2) M) else none)
theorem sF_X3_put_82 {a0 : Nat} {i1 : Int32} {i2 : Int32} {i3 : Int32} {i4 : Int32}  {z5 : Value} {M : ev_M} {Q : Nat → Value → ev_M → Prop} {r : (Int32 × ev_M)} (h : F_X3_put_82 a0 i1 i2 i3 i4  M = some r) (hq : Q 0 (.int r.1) r.2) : XP ev_prog b_X3_put_82 [.ref a0, .int i1, .int i2, .int i3, .int i4, z5] [] M Q := by
  unfold F_X3_put_82 at h
  refine x_aloadn0.mpr ?_
  obtain ⟨hc, h⟩ := gd h
  refine (x_getf4 hc).mpr ?_
  refine (x_bipush (by decide)).mpr ?_
  refine x_iloadn1.mpr ?_
  refine (x_imul).mpr ?_
  refine x_iloadn3.mpr ?_
  refine (x_iadd).mpr ?_
  refine x_iloadn2.mpr ?_
  rcases ife h with ⟨hc, h⟩ | ⟨hc, h⟩
  · rw [x_if_ne, if_pos hc, bk_X3_put_103]
    exact sF_X3_put_103 h hq
  · rw [x_if_ne, if_neg hc]
    refine x_iload4.mpr ?_
    refine (x_i2s).mpr ?_
    refine (x_i2d).mpr ?_
    refine x_goto.mpr ?_
    rw [bk_X3_put_149]
    exact sF_X3_put_149 h hq
def F_X3_put_68 (a0 : Nat) (i1 : Int32) (i2 : Int32) (i3 : Int32) (i4 : Int32) (s0 : Int32) (M : ev_M) : Option (Int32 × ev_M) := (if s0 ≤ 0 then F_X3_put_82 a0 i1 i2 i3 i4  M else (if ¬ a0 = 0 ∧ mK M a0 = 2 then (f_X3_meets a0 s0 M).bind fun r78_1 => some (r78_1.1, r78_1.2) else none))
theorem sF_X3_put_68 {a0 : Nat} {i1 : Int32} {i2 : Int32} {i3 : Int32} {i4 : Int32} {s0 : Int32} {z5 : Value} {M : ev_M} {Q : Nat → Value → ev_M → Prop} {r : (Int32 × ev_M)} (h : F_X3_put_68 a0 i1 i2 i3 i4 s0 M = some r) (hq : Q 0 (.int r.1) r.2) : XP ev_prog b_X3_put_68 [.ref a0, .int i1, .int i2, .int i3, .int i4, z5] [.int s0] M Q := by
  unfold F_X3_put_68 at h
  refine x_kill.mpr ?_
  show XP ev_prog _ [.ref a0, .int i1, .int i2, .int i3, .int i4, jk] [.int s0] M Q
  refine x_istore5.mpr ?_
  refine x_iload5.mpr ?_
  rcases ife h with ⟨hc, h⟩ | ⟨hc, h⟩
  · rw [x_if_le, if_pos hc, bk_X3_put_82]
    exact sF_X3_put_82 h hq
  · rw [x_if_le, if_neg hc]
    refine x_aloadn0.mpr ?_
    refine x_iload5.mpr ?_
    obtain ⟨hc, h⟩ := gd h
    obtain ⟨r78_1, hz, h⟩ := Option.bind_eq_some_iff.mp h
    refine (y_virt2 ml_X3_meets (by show 2 ≤ 2; decide) hc.1 hc.2 rfl (by decide) (by show ¬ 8 < 0; decide)).mpr ?_
    refine sf_X3_meets hz ?_
    refine xk0.mpr ?_
    show XP ev_prog _ _ (.int r78_1.1 :: _) r78_1.2 Q
    cases h
    exact x_ireturn.mpr hq
def F_X3_put_67 (a0 : Nat) (i1 : Int32) (i2 : Int32) (i3 : Int32) (i4 : Int32)  (M : ev_M) : Option (Int32 × ev_M) := F_X3_put_68 a0 i1 i2 i3 i4 (iI (2)) M
theorem sF_X3_put_67 {a0 : Nat} {i1 : Int32} {i2 : Int32} {i3 : Int32} {i4 : Int32}  {z5 : Value} {M : ev_M} {Q : Nat → Value → ev_M → Prop} {r : (Int32 × ev_M)} (h : F_X3_put_67 a0 i1 i2 i3 i4  M = some r) (hq : Q 0 (.int r.1) r.2) : XP ev_prog b_X3_put_67 [.ref a0, .int i1, .int i2, .int i3, .int i4, z5] [] M Q := by
  unfold F_X3_put_67 at h
  refine x_iconst.mpr ?_
  refine x_fall.mpr ?_
  rw [bk_X3_put_68]
  exact sF_X3_put_68 h hq
def F_X3_put_47 (a0 : Nat) (i1 : Int32) (i2 : Int32) (i3 : Int32) (i4 : Int32)  (M : ev_M) : Option (Int32 × ev_M) := (if ([2] : List Nat).contains (mK M a0) = true then (if ev_isI (mK M (mA M a0 1)) = true ∧ ev_in i1 (mN M (mA M a0 1)) = true then (f_X3_in i3 (iI (0)) ((mI M (mA M a0 1) (ev_ix i1)) - (iI (1))) M).bind fun r57_1 => (if r57_1.1 = 0 then F_X3_put_67 a0 i1 i2 i3 i4  r57_1.2 else F_X3_put_68 a0 i1 i2 i3 i4 (iI (0)) r57_1.2) else none) else none)
theorem sF_X3_put_47 {a0 : Nat} {i1 : Int32} {i2 : Int32} {i3 : Int32} {i4 : Int32}  {z5 : Value} {M : ev_M} {Q : Nat → Value → ev_M → Prop} {r : (Int32 × ev_M)} (h : F_X3_put_47 a0 i1 i2 i3 i4  M = some r) (hq : Q 0 (.int r.1) r.2) : XP ev_prog b_X3_put_47 [.ref a0, .int i1, .int i2, .int i3, .int i4, z5] [] M Q := by
  unfold F_X3_put_47 at h
  refine x_iloadn3.mpr ?_
  refine x_iconst.mpr ?_
  refine x_aloadn0.mpr ?_
  obtain ⟨hc, h⟩ := gd h
  refine (x_getf4 hc).mpr ?_
  refine x_iloadn1.mpr ?_
  obtain ⟨hc, h⟩ := gd h
  refine (x_iaload hc.1 hc.2).mpr ?_
  refine x_iconst.mpr ?_
  refine (x_isub).mpr ?_
  obtain ⟨r57_1, hz, h⟩ := Option.bind_eq_some_iff.mp h
  refine (y_stat3 ml_X3_in (by show 3 ≤ 3; decide) (by decide) (by decide) (by show ¬ 8 < 0; decide)).mpr ?_
  refine sf_X3_in hz ?_
  refine xk0.mpr ?_
  show XP ev_prog _ _ (.int r57_1.1 :: _) r57_1.2 Q
  rcases ife h with ⟨hc, h⟩ | ⟨hc, h⟩
  · rw [x_if_eq, if_pos hc, bk_X3_put_67]
    exact sF_X3_put_67 h hq
  · rw [x_if_eq, if_neg hc]
    refine x_iconst.mpr ?_
    refine x_goto.mpr ?_
    rw [bk_X3_put_68]
    exact sF_X3_put_68 h hq
def F_X3_put_33 (a0 : Nat) (i1 : Int32) (i2 : Int32) (i3 : Int32) (i4 : Int32)  (M : ev_M) : Option (Int32 × ev_M) := (if ([2] : List Nat).contains (mK M a0) = true then (if ev_isI (mK M (mA M a0 0)) = true ∧ ev_in i1 (mN M (mA M a0 0)) = true then (if (mI M (mA M a0 0) (ev_ix i1)) = i2 then F_X3_put_47 a0 i1 i2 i3 i4  M else F_X3_put_68 a0 i1 i2 i3 i4 (iI (3)) M) else none) else none)
theorem sF_X3_put_33 {a0 : Nat} {i1 : Int32} {i2 : Int32} {i3 : Int32} {i4 : Int32}  {z5 : Value} {M : ev_M} {Q : Nat → Value → ev_M → Prop} {r : (Int32 × ev_M)} (h : F_X3_put_33 a0 i1 i2 i3 i4  M = some r) (hq : Q 0 (.int r.1) r.2) : XP ev_prog b_X3_put_33 [.ref a0, .int i1, .int i2, .int i3, .int i4, z5] [] M Q := by
  unfold F_X3_put_33 at h
  refine x_aloadn0.mpr ?_
  obtain ⟨hc, h⟩ := gd h
  refine (x_getf4 hc).mpr ?_
  refine x_iloadn1.mpr ?_
  obtain ⟨hc, h⟩ := gd h
  refine (x_iaload hc.1 hc.2).mpr ?_
  refine x_iloadn2.mpr ?_
  rcases ife h with ⟨hc, h⟩ | ⟨hc, h⟩
  · rw [x_icmp_eq, if_pos hc, bk_X3_put_47]
    exact sF_X3_put_47 h hq
  · rw [x_icmp_eq, if_neg hc]
    refine x_iconst.mpr ?_
    refine x_goto.mpr ?_
    rw [bk_X3_put_68]
    exact sF_X3_put_68 h hq
def F_X3_put_19 (a0 : Nat) (i1 : Int32) (i2 : Int32) (i3 : Int32) (i4 : Int32)  (M : ev_M) : Option (Int32 × ev_M) := (if ([2] : List Nat).contains (mK M a0) = true then (if ev_isI (mK M (mA M a0 0)) = true ∧ ev_in i1 (mN M (mA M a0 0)) = true then (if ¬ (mI M (mA M a0 0) (ev_ix i1)) = (iI (-1)) then F_X3_put_33 a0 i1 i2 i3 i4  M else F_X3_put_68 a0 i1 i2 i3 i4 (iI (1)) M) else none) else none)
theorem sF_X3_put_19 {a0 : Nat} {i1 : Int32} {i2 : Int32} {i3 : Int32} {i4 : Int32}  {z5 : Value} {M : ev_M} {Q : Nat → Value → ev_M → Prop} {r : (Int32 × ev_M)} (h : F_X3_put_19 a0 i1 i2 i3 i4  M = some r) (hq : Q 0 (.int r.1) r.2) : XP ev_prog b_X3_put_19 [.ref a0, .int i1, .int i2, .int i3, .int i4, z5] [] M Q := by
  unfold F_X3_put_19 at h
  refine x_aloadn0.mpr ?_
  obtain ⟨hc, h⟩ := gd h
  refine (x_getf4 hc).mpr ?_
  refine x_iloadn1.mpr ?_
  obtain ⟨hc, h⟩ := gd h
  refine (x_iaload hc.1 hc.2).mpr ?_
  refine x_iconst.mpr ?_
  rcases ife h with ⟨hc, h⟩ | ⟨hc, h⟩
  · rw [x_icmp_ne, if_pos hc, bk_X3_put_33]
    exact sF_X3_put_33 h hq
  · rw [x_icmp_ne, if_neg hc]
    refine x_iconst.mpr ?_
    refine x_goto.mpr ?_
    rw [bk_X3_put_68]
    exact sF_X3_put_68 h hq
def F_X3_put_0 (a0 : Nat) (i1 : Int32) (i2 : Int32) (i3 : Int32) (i4 : Int32)  (M : ev_M) : Option (Int32 × ev_M) := (f_X3_isRow i1 M).bind fun r1_1 => (if r1_1.1 = 0 then F_X3_put_16   r1_1.2 else (f_X3_in i2 (iI (0)) (iI (4)) r1_1.2).bind fun r10_1 => (if ¬ r10_1.1 = 0 then F_X3_put_19 a0 i1 i2 i3 i4  r10_1.2 else F_X3_put_16   r10_1.2))
theorem sF_X3_put_0 {a0 : Nat} {i1 : Int32} {i2 : Int32} {i3 : Int32} {i4 : Int32}  {z5 : Value} {M : ev_M} {Q : Nat → Value → ev_M → Prop} {r : (Int32 × ev_M)} (h : F_X3_put_0 a0 i1 i2 i3 i4  M = some r) (hq : Q 0 (.int r.1) r.2) : XP ev_prog b_X3_put_0 [.ref a0, .int i1, .int i2, .int i3, .int i4, z5] [] M Q := by
  unfold F_X3_put_0 at h
  refine x_iloadn1.mpr ?_
  obtain ⟨r1_1, hz, h⟩ := Option.bind_eq_some_iff.mp h
  refine (y_stat1 ml_X3_isRow (by show 1 ≤ 1; decide) (by decide) (by decide) (by show ¬ 8 < 0; decide)).mpr ?_
  refine sf_X3_isRow hz ?_
  refine xk0.mpr ?_
  show XP ev_prog _ _ (.int r1_1.1 :: _) r1_1.2 Q
  rcases ife h with ⟨hc, h⟩ | ⟨hc, h⟩
  · rw [x_if_eq, if_pos hc, bk_X3_put_16]
    exact sF_X3_put_16 h hq
  · rw [x_if_eq, if_neg hc]
    refine x_iloadn2.mpr ?_
    refine x_iconst.mpr ?_
    refine x_iconst.mpr ?_
    obtain ⟨r10_1, hz, h⟩ := Option.bind_eq_some_iff.mp h
    refine (y_stat3 ml_X3_in (by show 3 ≤ 3; decide) (by decide) (by decide) (by show ¬ 8 < 0; decide)).mpr ?_
    refine sf_X3_in hz ?_
    refine xk0.mpr ?_
    show XP ev_prog _ _ (.int r10_1.1 :: _) r10_1.2 Q
    rcases ife h with ⟨hc, h⟩ | ⟨hc, h⟩
    · rw [x_if_ne, if_pos hc, bk_X3_put_19]
      exact sF_X3_put_19 h hq
    · rw [x_if_ne, if_neg hc]
      refine x_fall.mpr ?_
      rw [bk_X3_put_16]
      exact sF_X3_put_16 h hq
def f_X3_put (a0 : Nat) (i1 : Int32) (i2 : Int32) (i3 : Int32) (i4 : Int32) (M : ev_M) : Option (Int32 × ev_M) := F_X3_put_0 a0 i1 i2 i3 i4 M
theorem sf_X3_put {a0 : Nat} {i1 : Int32} {i2 : Int32} {i3 : Int32} {i4 : Int32} {M : ev_M} {Q : Nat → Value → ev_M → Prop} {r : (Int32 × ev_M)} (h : f_X3_put a0 i1 i2 i3 i4 M = some r) (hq : Q 0 (.int r.1) r.2) : CX ev_prog 57 [.ref a0, .int i1, .int i2, .int i3, .int i4] M Q := by
  rw [cx_open (ls := [.ref a0, .int i1, .int i2, .int i3, .int i4, jk]) bk_X3_put_0 rfl ml_X3_put rfl]
  exact sF_X3_put_0 h hq
def F_X3_no_0 (i0 : Int32)  (M : ev_M) : Option (Int64 × ev_M) := some (((lI (-(9223372036854775808 : Nat))) - (i0).toInt64), M)
theorem sF_X3_no_0 {i0 : Int32}   {M : ev_M} {Q : Nat → Value → ev_M → Prop} {r : (Int64 × ev_M)} (h : F_X3_no_0 i0  M = some r) (hq : Q 0 (.long r.1) r.2) : XP ev_prog b_X3_no_0 [.int i0] [] M Q := by
  unfold F_X3_no_0 at h
  refine x_ldc21.mpr ?_
  refine x_iloadn0.mpr ?_
  refine (x_i2l).mpr ?_
  refine (x_lsub).mpr ?_
  cases h
  exact x_lreturn.mpr hq
def f_X3_no (i0 : Int32) (M : ev_M) : Option (Int64 × ev_M) := F_X3_no_0 i0 M
theorem sf_X3_no {i0 : Int32} {M : ev_M} {Q : Nat → Value → ev_M → Prop} {r : (Int64 × ev_M)} (h : f_X3_no i0 M = some r) (hq : Q 0 (.long r.1) r.2) : CX ev_prog 65 [.int i0] M Q := by
  rw [cx_open (ls := [.int i0]) bk_X3_no_0 rfl ml_X3_no rfl]
  exact sF_X3_no_0 h hq
def F_X3_lacks_35  (s0 : Int32) (M : ev_M) : Option (Int32 × ev_M) := some (s0, M)
theorem sF_X3_lacks_35  {s0 : Int32} {z0 : Value} {z1 : Value} {z2 : Value} {M : ev_M} {Q : Nat → Value → ev_M → Prop} {r : (Int32 × ev_M)} (h : F_X3_lacks_35  s0 M = some r) (hq : Q 0 (.int r.1) r.2) : XP ev_prog b_X3_lacks_35 [z0, z1, z2] [.int s0] M Q := by
  unfold F_X3_lacks_35 at h
  refine x_kill.mpr ?_
  show XP ev_prog _ [jk, jk, jk] [.int s0] M Q
  cases h
  exact x_ireturn.mpr hq
def F_X3_lacks_34   (M : ev_M) : Option (Int32 × ev_M) := F_X3_lacks_35  (iI (2)) M
theorem sF_X3_lacks_34   {z0 : Value} {z1 : Value} {z2 : Value} {M : ev_M} {Q : Nat → Value → ev_M → Prop} {r : (Int32 × ev_M)} (h : F_X3_lacks_34   M = some r) (hq : Q 0 (.int r.1) r.2) : XP ev_prog b_X3_lacks_34 [z0, z1, z2] [] M Q := by
  unfold F_X3_lacks_34 at h
  refine x_iconst.mpr ?_
  refine x_fall.mpr ?_
  rw [bk_X3_lacks_35]
  exact sF_X3_lacks_35 h hq
def F_X3_lacks_14 (a0 : Nat) (i1 : Int32) (i2 : Int32)  (M : ev_M) : Option (Int32 × ev_M) := (if ([2] : List Nat).contains (mK M a0) = true then (if ev_isI (mK M (mA M a0 1)) = true ∧ ev_in i1 (mN M (mA M a0 1)) = true then (f_X3_in i2 (iI (0)) ((mI M (mA M a0 1) (ev_ix i1)) - (iI (1))) M).bind fun r24_1 => (if r24_1.1 = 0 then F_X3_lacks_34   r24_1.2 else F_X3_lacks_35  (iI (0)) r24_1.2) else none) else none)
theorem sF_X3_lacks_14 {a0 : Nat} {i1 : Int32} {i2 : Int32}   {M : ev_M} {Q : Nat → Value → ev_M → Prop} {r : (Int32 × ev_M)} (h : F_X3_lacks_14 a0 i1 i2  M = some r) (hq : Q 0 (.int r.1) r.2) : XP ev_prog b_X3_lacks_14 [.ref a0, .int i1, .int i2] [] M Q := by
  unfold F_X3_lacks_14 at h
  refine x_iloadn2.mpr ?_
  refine x_iconst.mpr ?_
  refine x_aloadn0.mpr ?_
  obtain ⟨hc, h⟩ := gd h
  refine (x_getf4 hc).mpr ?_
  refine x_iloadn1.mpr ?_
  obtain ⟨hc, h⟩ := gd h
  refine (x_iaload hc.1 hc.2).mpr ?_
  refine x_iconst.mpr ?_
  refine (x_isub).mpr ?_
  obtain ⟨r24_1, hz, h⟩ := Option.bind_eq_some_iff.mp h
  refine (y_stat3 ml_X3_in (by show 3 ≤ 3; decide) (by decide) (by decide) (by show ¬ 8 < 0; decide)).mpr ?_
  refine sf_X3_in hz ?_
  refine xk0.mpr ?_
  show XP ev_prog _ _ (.int r24_1.1 :: _) r24_1.2 Q
  rcases ife h with ⟨hc, h⟩ | ⟨hc, h⟩
  · rw [x_if_eq, if_pos hc, bk_X3_lacks_34]
    exact sF_X3_lacks_34 h hq
  · rw [x_if_eq, if_neg hc]
    refine x_iconst.mpr ?_
    refine x_goto.mpr ?_
    rw [bk_X3_lacks_35]
    exact sF_X3_lacks_35 h hq
def F_X3_lacks_0 (a0 : Nat) (i1 : Int32) (i2 : Int32)  (M : ev_M) : Option (Int32 × ev_M) := (if ([2] : List Nat).contains (mK M a0) = true then (if ev_isI (mK M (mA M a0 0)) = true ∧ ev_in i1 (mN M (mA M a0 0)) = true then (if ¬ (mI M (mA M a0 0) (ev_ix i1)) = (iI (-1)) then F_X3_lacks_14 a0 i1 i2  M else F_X3_lacks_35  (iI (1)) M) else none) else none)
theorem sF_X3_lacks_0 {a0 : Nat} {i1 : Int32} {i2 : Int32}   {M : ev_M} {Q : Nat → Value → ev_M → Prop} {r : (Int32 × ev_M)} (h : F_X3_lacks_0 a0 i1 i2  M = some r) (hq : Q 0 (.int r.1) r.2) : XP ev_prog b_X3_lacks_0 [.ref a0, .int i1, .int i2] [] M Q := by
  unfold F_X3_lacks_0 at h
  refine x_aloadn0.mpr ?_
  obtain ⟨hc, h⟩ := gd h
  refine (x_getf4 hc).mpr ?_
  refine x_iloadn1.mpr ?_
  obtain ⟨hc, h⟩ := gd h
  refine (x_iaload hc.1 hc.2).mpr ?_
  refine x_iconst.mpr ?_
  rcases ife h with ⟨hc, h⟩ | ⟨hc, h⟩
  · rw [x_icmp_ne, if_pos hc, bk_X3_lacks_14]
    exact sF_X3_lacks_14 h hq
  · rw [x_icmp_ne, if_neg hc]
    refine x_iconst.mpr ?_
    refine x_goto.mpr ?_
    rw [bk_X3_lacks_35]
    exact sF_X3_lacks_35 h hq
def f_X3_lacks (a0 : Nat) (i1 : Int32) (i2 : Int32) (M : ev_M) : Option (Int32 × ev_M) := F_X3_lacks_0 a0 i1 i2 M
theorem sf_X3_lacks {a0 : Nat} {i1 : Int32} {i2 : Int32} {M : ev_M} {Q : Nat → Value → ev_M → Prop} {r : (Int32 × ev_M)} (h : f_X3_lacks a0 i1 i2 M = some r) (hq : Q 0 (.int r.1) r.2) : CX ev_prog 66 [.ref a0, .int i1, .int i2] M Q := by
  rw [cx_open (ls := [.ref a0, .int i1, .int i2]) bk_X3_lacks_0 rfl ml_X3_lacks rfl]
  exact sF_X3_lacks_0 h hq
def F_X3_bitsOf_134  (s0 : Int64) (M : ev_M) : Option (Int64 × ev_M) := some (s0, M)
theorem sF_X3_bitsOf_134  {s0 : Int64} {z0 : Value} {z1 : Value} {z2 : Value} {z3 : Value} {z4 : Value} {z5 : Value} {z6 : Value} {z7 : Value} {z8 : Value} {z9 : Value} {z10 : Value} {M : ev_M} {Q : Nat → Value → ev_M → Prop} {r : (Int64 × ev_M)} (h : F_X3_bitsOf_134  s0 M = some r) (hq : Q 0 (.long r.1) r.2) : XP ev_prog b_X3_bitsOf_134 [z0, z1, z2, z3, z4, z5, z6, z7, z8, z9, z10] [.long s0] M Q := by
  unfold F_X3_bitsOf_134 at h
  refine x_kill.mpr ?_
  show XP ev_prog _ [jk, jk, jk, jk, jk, jk, jk, jk, jk, jk, jk] [.long s0] M Q
  cases h
  exact x_lreturn.mpr hq
def F_X3_bitsOf_118 (i2 : Int32) (i3 : Int32) (i6 : Int32) (j9 : Int64)  (M : ev_M) : Option (Int64 × ev_M) := F_X3_bitsOf_134  ((j9 - ((lI 1) <<< (i2.toInt64 &&& 63))) + ((((i6 - i3) + (iI (1)))).toInt64 <<< (i2.toInt64 &&& 63))) M
theorem sF_X3_bitsOf_118 {i2 : Int32} {i3 : Int32} {i6 : Int32} {j9 : Int64}  {z0 : Value} {z1 : Value} {z4 : Value} {z5 : Value} {z7 : Value} {z8 : Value} {z10 : Value} {M : ev_M} {Q : Nat → Value → ev_M → Prop} {r : (Int64 × ev_M)} (h : F_X3_bitsOf_118 i2 i3 i6 j9  M = some r) (hq : Q 0 (.long r.1) r.2) : XP ev_prog b_X3_bitsOf_118 [z0, z1, .int i2, .int i3, z4, z5, .int i6, z7, z8, .long j9, z10] [] M Q := by
  unfold F_X3_bitsOf_118 at h
  refine x_lload9.mpr ?_
  refine x_lconst1.mpr ?_
  refine x_iloadn2.mpr ?_
  refine (x_lshl).mpr ?_
  refine (x_lsub).mpr ?_
  refine x_iload6.mpr ?_
  refine x_iloadn3.mpr ?_
  refine (x_isub).mpr ?_
  refine x_iconst.mpr ?_
  refine (x_iadd).mpr ?_
  refine (x_i2l).mpr ?_
  refine x_iloadn2.mpr ?_
  refine (x_lshl).mpr ?_
  refine (x_ladd).mpr ?_
  refine x_fall.mpr ?_
  rw [bk_X3_bitsOf_134]
  exact sF_X3_bitsOf_134 h hq
def F_X3_bitsOf_101 (i2 : Int32) (i3 : Int32) (d4 : UInt64) (i6 : Int32) (d7 : UInt64)  (M : ev_M) : Option (Int64 × ev_M) := (if 0 ≤ (Op.cmpValue (FP.dcmp d4 FP.dconst1) .g) then F_X3_bitsOf_118 i2 i3 i6 (FP.d2l d7)  M else F_X3_bitsOf_134  (FP.d2l d7) M)
theorem sF_X3_bitsOf_101 {i2 : Int32} {i3 : Int32} {d4 : UInt64} {i6 : Int32} {d7 : UInt64}  {z0 : Value} {z1 : Value} {z5 : Value} {z8 : Value} {z9 : Value} {z10 : Value} {M : ev_M} {Q : Nat → Value → ev_M → Prop} {r : (Int64 × ev_M)} (h : F_X3_bitsOf_101 i2 i3 d4 i6 d7  M = some r) (hq : Q 0 (.long r.1) r.2) : XP ev_prog b_X3_bitsOf_101 [z0, z1, .int i2, .int i3, .double d4, z5, .int i6, .double d7, z8, z9, z10] [] M Q := by
  unfold F_X3_bitsOf_101 at h
  refine x_dload7.mpr ?_
  refine (x_d2l).mpr ?_
  refine x_lstore9.mpr ?_
  refine x_dload4.mpr ?_
  refine x_dconst1.mpr ?_
  refine x_dcmp.mpr ?_
  rcases ife h with ⟨hc, h⟩ | ⟨hc, h⟩
  · rw [x_if_ge, if_pos hc, bk_X3_bitsOf_118]
    exact sF_X3_bitsOf_118 h hq
  · rw [x_if_ge, if_neg hc]
    refine x_lload9.mpr ?_
    refine x_goto.mpr ?_
    rw [bk_X3_bitsOf_134]
    exact sF_X3_bitsOf_134 h hq
def F_X3_bitsOf_81 (k81 : Int32 → Int32 → UInt64 → Int32 → UInt64 → Int32 → ev_M → Option (Int64 × ev_M)) (i2 : Int32) (i3 : Int32) (d4 : UInt64) (i6 : Int32) (d7 : UInt64) (i9 : Int32)  (M : ev_M) : Option (Int64 × ev_M) := (if i2 ≤ i9 then F_X3_bitsOf_101 i2 i3 d4 i6 d7  M else (if FP.dmul d7 (UInt64.ofNat 4611686018427387904) &&& 0x7fffffffffffffff ≤ 0x7ff0000000000000 then k81 i2 i3 d4 i6 (FP.dmul d7 (UInt64.ofNat 4611686018427387904)) (i9 + iI (1)) M else none))
theorem sF_X3_bitsOf_81 {k81 : Int32 → Int32 → UInt64 → Int32 → UInt64 → Int32 → ev_M → Option (Int64 × ev_M)} (hk81 : ∀ (i2 : Int32) (i3 : Int32) (d4 : UInt64) (i6 : Int32) (d7 : UInt64) (i9 : Int32) (M : ev_M) (r : (Int64 × ev_M)), k81 i2 i3 d4 i6 d7 i9 M = some r → ∀ (z0 : Value) (z1 : Value) (z5 : Value) (z8 : Value) (z10 : Value) (Q : Nat → Value → ev_M → Prop), Q 0 (.long r.1) r.2 → XP ev_prog b_X3_bitsOf_81 [z0, z1, .int i2, .int i3, .double d4, z5, .int i6, .double d7, z8, .int i9, z10] [] M Q){i2 : Int32} {i3 : Int32} {d4 : UInt64} {i6 : Int32} {d7 : UInt64} {i9 : Int32}  {z0 : Value} {z1 : Value} {z5 : Value} {z8 : Value} {z10 : Value} {M : ev_M} {Q : Nat → Value → ev_M → Prop} {r : (Int64 × ev_M)} (h : F_X3_bitsOf_81 k81 i2 i3 d4 i6 d7 i9  M = some r) (hq : Q 0 (.long r.1) r.2) : XP ev_prog b_X3_bitsOf_81 [z0, z1, .int i2, .int i3, .double d4, z5, .int i6, .double d7, z8, .int i9, z10] [] M Q := by
  unfold F_X3_bitsOf_81 at h
  refine x_kill.mpr ?_
  show XP ev_prog _ [jk, jk, .int i2, .int i3, .double d4, z5, .int i6, .double d7, z8, .int i9, jk] [] M Q
  refine x_iload9.mpr ?_
  refine x_iloadn2.mpr ?_
  rcases ife h with ⟨hc, h⟩ | ⟨hc, h⟩
  · rw [x_icmp_ge, if_pos hc, bk_X3_bitsOf_101]
    exact sF_X3_bitsOf_101 h hq
  · rw [x_icmp_ge, if_neg hc]
    refine x_dload7.mpr ?_
    refine x_ldc2D.mpr ?_
    obtain ⟨hc, h⟩ := gd h
    refine (x_dmul hc).mpr ?_
    refine x_dstore7.mpr ?_
    refine x_iinc9.mpr ?_
    refine x_goto.mpr ?_
    rw [bk_X3_bitsOf_81]
    exact hk81 _ _ _ _ _ _ _ _ _ h _ _ _ _ _ _ hq
def W_X3_bitsOf_81 : Nat → Int32 → Int32 → UInt64 → Int32 → UInt64 → Int32 → ev_M → Option (Int64 × ev_M)
  | 0 => fun _ => fun _ => fun _ => fun _ => fun _ => fun _ => fun _ => none
  | n + 1 => fun i2 i3 d4 i6 d7 i9 M => F_X3_bitsOf_81 (W_X3_bitsOf_81 n) i2 i3 d4 i6 d7 i9 M
theorem sW_X3_bitsOf_81  : ∀ (n : Nat) {i2 : Int32} {i3 : Int32} {d4 : UInt64} {i6 : Int32} {d7 : UInt64} {i9 : Int32} {M : ev_M} {r : (Int64 × ev_M)} (h : W_X3_bitsOf_81 n i2 i3 d4 i6 d7 i9 M = some r) {z0 : Value} {z1 : Value} {z5 : Value} {z8 : Value} {z10 : Value} {Q : Nat → Value → ev_M → Prop} (hq : Q 0 (.long r.1) r.2), XP ev_prog b_X3_bitsOf_81 [z0, z1, .int i2, .int i3, .double d4, z5, .int i6, .double d7, z8, .int i9, z10] [] M Q := by
  intro n
  induction n with
  | zero => intro i2 i3 d4 i6 d7 i9 M r h; cases h
  | succ n ih => intro i2 i3 d4 i6 d7 i9 M r h z0 z1 z5 z8 z10 Q hq; exact sF_X3_bitsOf_81 (fun i2 i3 d4 i6 d7 i9 M r h z0 z1 z5 z8 z10 Q hq => ih h hq) h hq
def F_X3_bitsOf_74 (i2 : Int32) (i3 : Int32) (d4 : UInt64) (i6 : Int32)  (M : ev_M) : Option (Int64 × ev_M) := W_X3_bitsOf_81 5000 i2 i3 d4 i6 d4 (iI (0)) M
theorem sF_X3_bitsOf_74 {i2 : Int32} {i3 : Int32} {d4 : UInt64} {i6 : Int32}  {z0 : Value} {z1 : Value} {z5 : Value} {z7 : Value} {z8 : Value} {z9 : Value} {z10 : Value} {M : ev_M} {Q : Nat → Value → ev_M → Prop} {r : (Int64 × ev_M)} (h : F_X3_bitsOf_74 i2 i3 d4 i6  M = some r) (hq : Q 0 (.long r.1) r.2) : XP ev_prog b_X3_bitsOf_74 [z0, z1, .int i2, .int i3, .double d4, z5, .int i6, z7, z8, z9, z10] [] M Q := by
  unfold F_X3_bitsOf_74 at h
  refine x_kill.mpr ?_
  show XP ev_prog _ [jk, jk, .int i2, .int i3, .double d4, z5, .int i6, jk, jk, jk, jk] [] M Q
  refine x_dload4.mpr ?_
  refine x_dstore7.mpr ?_
  refine x_iconst.mpr ?_
  refine x_istore9.mpr ?_
  refine x_fall.mpr ?_
  rw [bk_X3_bitsOf_81]
  exact sW_X3_bitsOf_81 5000 h hq
def F_X3_bitsOf_40 (k40 : Int32 → Int32 → UInt64 → Int32 → ev_M → Option (Int64 × ev_M)) (i2 : Int32) (i3 : Int32) (d4 : UInt64) (i6 : Int32)  (M : ev_M) : Option (Int64 × ev_M) := (if 0 ≤ (Op.cmpValue (FP.dcmp d4 FP.dconst1) .g) then F_X3_bitsOf_74 i2 i3 d4 i6  M else (if i6 ≤ i3 then F_X3_bitsOf_74 i2 i3 d4 i6  M else (if (Op.cmpValue (FP.dcmp d4 FP.dconst0) .l) ≤ 0 then F_X3_bitsOf_74 i2 i3 d4 i6  M else (if FP.dmul d4 (UInt64.ofNat 4611686018427387904) &&& 0x7fffffffffffffff ≤ 0x7ff0000000000000 then k40 i2 i3 (FP.dmul d4 (UInt64.ofNat 4611686018427387904)) (i6 + iI (-1)) M else none))))
theorem sF_X3_bitsOf_40 {k40 : Int32 → Int32 → UInt64 → Int32 → ev_M → Option (Int64 × ev_M)} (hk40 : ∀ (i2 : Int32) (i3 : Int32) (d4 : UInt64) (i6 : Int32) (M : ev_M) (r : (Int64 × ev_M)), k40 i2 i3 d4 i6 M = some r → ∀ (z0 : Value) (z1 : Value) (z5 : Value) (z7 : Value) (z8 : Value) (z9 : Value) (z10 : Value) (Q : Nat → Value → ev_M → Prop), Q 0 (.long r.1) r.2 → XP ev_prog b_X3_bitsOf_40 [z0, z1, .int i2, .int i3, .double d4, z5, .int i6, z7, z8, z9, z10] [] M Q){i2 : Int32} {i3 : Int32} {d4 : UInt64} {i6 : Int32}  {z0 : Value} {z1 : Value} {z5 : Value} {z7 : Value} {z8 : Value} {z9 : Value} {z10 : Value} {M : ev_M} {Q : Nat → Value → ev_M → Prop} {r : (Int64 × ev_M)} (h : F_X3_bitsOf_40 k40 i2 i3 d4 i6  M = some r) (hq : Q 0 (.long r.1) r.2) : XP ev_prog b_X3_bitsOf_40 [z0, z1, .int i2, .int i3, .double d4, z5, .int i6, z7, z8, z9, z10] [] M Q := by
  unfold F_X3_bitsOf_40 at h
  refine x_kill.mpr ?_
  show XP ev_prog _ [jk, jk, .int i2, .int i3, .double d4, z5, .int i6, jk, jk, jk, jk] [] M Q
  refine x_dload4.mpr ?_
  refine x_dconst1.mpr ?_
  refine x_dcmp.mpr ?_
  rcases ife h with ⟨hc, h⟩ | ⟨hc, h⟩
  · rw [x_if_ge, if_pos hc, bk_X3_bitsOf_74]
    exact sF_X3_bitsOf_74 h hq
  · rw [x_if_ge, if_neg hc]
    refine x_iload6.mpr ?_
    refine x_iloadn3.mpr ?_
    rcases ife h with ⟨hc, h⟩ | ⟨hc, h⟩
    · rw [x_icmp_le, if_pos hc, bk_X3_bitsOf_74]
      exact sF_X3_bitsOf_74 h hq
    · rw [x_icmp_le, if_neg hc]
      refine x_dload4.mpr ?_
      refine x_dconst0.mpr ?_
      refine x_dcmp.mpr ?_
      rcases ife h with ⟨hc, h⟩ | ⟨hc, h⟩
      · rw [x_if_le, if_pos hc, bk_X3_bitsOf_74]
        exact sF_X3_bitsOf_74 h hq
      · rw [x_if_le, if_neg hc]
        refine x_dload4.mpr ?_
        refine x_ldc2D.mpr ?_
        obtain ⟨hc, h⟩ := gd h
        refine (x_dmul hc).mpr ?_
        refine x_dstore4.mpr ?_
        refine x_iinc6.mpr ?_
        refine x_goto.mpr ?_
        rw [bk_X3_bitsOf_40]
        exact hk40 _ _ _ _ _ _ _ h _ _ _ _ _ _ _ _ hq
def W_X3_bitsOf_40 : Nat → Int32 → Int32 → UInt64 → Int32 → ev_M → Option (Int64 × ev_M)
  | 0 => fun _ => fun _ => fun _ => fun _ => fun _ => none
  | n + 1 => fun i2 i3 d4 i6 M => F_X3_bitsOf_40 (W_X3_bitsOf_40 n) i2 i3 d4 i6 M
theorem sW_X3_bitsOf_40  : ∀ (n : Nat) {i2 : Int32} {i3 : Int32} {d4 : UInt64} {i6 : Int32} {M : ev_M} {r : (Int64 × ev_M)} (h : W_X3_bitsOf_40 n i2 i3 d4 i6 M = some r) {z0 : Value} {z1 : Value} {z5 : Value} {z7 : Value} {z8 : Value} {z9 : Value} {z10 : Value} {Q : Nat → Value → ev_M → Prop} (hq : Q 0 (.long r.1) r.2), XP ev_prog b_X3_bitsOf_40 [z0, z1, .int i2, .int i3, .double d4, z5, .int i6, z7, z8, z9, z10] [] M Q := by
  intro n
  induction n with
  | zero => intro i2 i3 d4 i6 M r h; cases h
  | succ n ih => intro i2 i3 d4 i6 M r h z0 z1 z5 z7 z8 z9 z10 Q hq; exact sF_X3_bitsOf_40 (fun i2 i3 d4 i6 M r h z0 z1 z5 z7 z8 z9 z10 Q hq => ih h hq) h hq
def F_X3_bitsOf_17 (k17 : Int32 → Int32 → UInt64 → Int32 → ev_M → Option (Int64 × ev_M)) (i2 : Int32) (i3 : Int32) (d4 : UInt64) (i6 : Int32)  (M : ev_M) : Option (Int64 × ev_M) := (if (Op.cmpValue (FP.dcmp d4 (UInt64.ofNat 4611686018427387904)) .l) < 0 then W_X3_bitsOf_40 5000 i2 i3 d4 i6 M else (if FP.ddiv d4 (UInt64.ofNat 4611686018427387904) &&& 0x7fffffffffffffff ≤ 0x7ff0000000000000 then k17 i2 i3 (FP.ddiv d4 (UInt64.ofNat 4611686018427387904)) (i6 + iI (1)) M else none))
theorem sF_X3_bitsOf_17 {k17 : Int32 → Int32 → UInt64 → Int32 → ev_M → Option (Int64 × ev_M)} (hk17 : ∀ (i2 : Int32) (i3 : Int32) (d4 : UInt64) (i6 : Int32) (M : ev_M) (r : (Int64 × ev_M)), k17 i2 i3 d4 i6 M = some r → ∀ (z0 : Value) (z1 : Value) (z5 : Value) (z7 : Value) (z8 : Value) (z9 : Value) (z10 : Value) (Q : Nat → Value → ev_M → Prop), Q 0 (.long r.1) r.2 → XP ev_prog b_X3_bitsOf_17 [z0, z1, .int i2, .int i3, .double d4, z5, .int i6, z7, z8, z9, z10] [] M Q){i2 : Int32} {i3 : Int32} {d4 : UInt64} {i6 : Int32}  {z0 : Value} {z1 : Value} {z5 : Value} {z7 : Value} {z8 : Value} {z9 : Value} {z10 : Value} {M : ev_M} {Q : Nat → Value → ev_M → Prop} {r : (Int64 × ev_M)} (h : F_X3_bitsOf_17 k17 i2 i3 d4 i6  M = some r) (hq : Q 0 (.long r.1) r.2) : XP ev_prog b_X3_bitsOf_17 [z0, z1, .int i2, .int i3, .double d4, z5, .int i6, z7, z8, z9, z10] [] M Q := by
  unfold F_X3_bitsOf_17 at h
  refine x_kill.mpr ?_
  show XP ev_prog _ [jk, jk, .int i2, .int i3, .double d4, z5, .int i6, jk, jk, jk, jk] [] M Q
  refine x_dload4.mpr ?_
  refine x_ldc2D.mpr ?_
  refine x_dcmp.mpr ?_
  rcases ife h with ⟨hc, h⟩ | ⟨hc, h⟩
  · rw [x_if_lt, if_pos hc, bk_X3_bitsOf_40]
    exact sW_X3_bitsOf_40 5000 h hq
  · rw [x_if_lt, if_neg hc]
    refine x_dload4.mpr ?_
    refine x_ldc2D.mpr ?_
    obtain ⟨hc, h⟩ := gd h
    refine (x_ddiv hc).mpr ?_
    refine x_dstore4.mpr ?_
    refine x_iinc6.mpr ?_
    refine x_goto.mpr ?_
    rw [bk_X3_bitsOf_17]
    exact hk17 _ _ _ _ _ _ _ h _ _ _ _ _ _ _ _ hq
def W_X3_bitsOf_17 : Nat → Int32 → Int32 → UInt64 → Int32 → ev_M → Option (Int64 × ev_M)
  | 0 => fun _ => fun _ => fun _ => fun _ => fun _ => none
  | n + 1 => fun i2 i3 d4 i6 M => F_X3_bitsOf_17 (W_X3_bitsOf_17 n) i2 i3 d4 i6 M
theorem sW_X3_bitsOf_17  : ∀ (n : Nat) {i2 : Int32} {i3 : Int32} {d4 : UInt64} {i6 : Int32} {M : ev_M} {r : (Int64 × ev_M)} (h : W_X3_bitsOf_17 n i2 i3 d4 i6 M = some r) {z0 : Value} {z1 : Value} {z5 : Value} {z7 : Value} {z8 : Value} {z9 : Value} {z10 : Value} {Q : Nat → Value → ev_M → Prop} (hq : Q 0 (.long r.1) r.2), XP ev_prog b_X3_bitsOf_17 [z0, z1, .int i2, .int i3, .double d4, z5, .int i6, z7, z8, z9, z10] [] M Q := by
  intro n
  induction n with
  | zero => intro i2 i3 d4 i6 M r h; cases h
  | succ n ih => intro i2 i3 d4 i6 M r h z0 z1 z5 z7 z8 z9 z10 Q hq; exact sF_X3_bitsOf_17 (fun i2 i3 d4 i6 M r h z0 z1 z5 z7 z8 z9 z10 Q hq => ih h hq) h hq
def F_X3_bitsOf_12 (i2 : Int32) (i3 : Int32) (s0 : UInt64) (M : ev_M) : Option (Int64 × ev_M) := W_X3_bitsOf_17 5000 i2 i3 s0 (iI (0)) M
theorem sF_X3_bitsOf_12 {i2 : Int32} {i3 : Int32} {s0 : UInt64} {z0 : Value} {z1 : Value} {z4 : Value} {z5 : Value} {z6 : Value} {z7 : Value} {z8 : Value} {z9 : Value} {z10 : Value} {M : ev_M} {Q : Nat → Value → ev_M → Prop} {r : (Int64 × ev_M)} (h : F_X3_bitsOf_12 i2 i3 s0 M = some r) (hq : Q 0 (.long r.1) r.2) : XP ev_prog b_X3_bitsOf_12 [z0, z1, .int i2, .int i3, z4, z5, z6, z7, z8, z9, z10] [.double s0] M Q := by
  unfold F_X3_bitsOf_12 at h
  refine x_kill.mpr ?_
  show XP ev_prog _ [jk, jk, .int i2, .int i3, jk, jk, jk, jk, jk, jk, jk] [.double s0] M Q
  refine x_dstore4.mpr ?_
  refine x_iconst.mpr ?_
  refine x_istore6.mpr ?_
  refine x_fall.mpr ?_
  rw [bk_X3_bitsOf_17]
  exact sW_X3_bitsOf_17 5000 h hq
def F_X3_bitsOf_11 (d0 : UInt64) (i2 : Int32) (i3 : Int32)  (M : ev_M) : Option (Int64 × ev_M) := F_X3_bitsOf_12 i2 i3 d0 M
theorem sF_X3_bitsOf_11 {d0 : UInt64} {i2 : Int32} {i3 : Int32}  {z1 : Value} {z4 : Value} {z5 : Value} {z6 : Value} {z7 : Value} {z8 : Value} {z9 : Value} {z10 : Value} {M : ev_M} {Q : Nat → Value → ev_M → Prop} {r : (Int64 × ev_M)} (h : F_X3_bitsOf_11 d0 i2 i3  M = some r) (hq : Q 0 (.long r.1) r.2) : XP ev_prog b_X3_bitsOf_11 [.double d0, z1, .int i2, .int i3, z4, z5, z6, z7, z8, z9, z10] [] M Q := by
  unfold F_X3_bitsOf_11 at h
  refine x_dloadn0.mpr ?_
  refine x_fall.mpr ?_
  rw [bk_X3_bitsOf_12]
  exact sF_X3_bitsOf_12 h hq
def F_X3_bitsOf_0 (d0 : UInt64) (i2 : Int32) (i3 : Int32)  (M : ev_M) : Option (Int64 × ev_M) := (if 0 ≤ (Op.cmpValue (FP.dcmp d0 FP.dconst0) .g) then F_X3_bitsOf_11 d0 i2 i3  M else F_X3_bitsOf_12 i2 i3 (FP.dneg d0) M)
theorem sF_X3_bitsOf_0 {d0 : UInt64} {i2 : Int32} {i3 : Int32}  {z1 : Value} {z4 : Value} {z5 : Value} {z6 : Value} {z7 : Value} {z8 : Value} {z9 : Value} {z10 : Value} {M : ev_M} {Q : Nat → Value → ev_M → Prop} {r : (Int64 × ev_M)} (h : F_X3_bitsOf_0 d0 i2 i3  M = some r) (hq : Q 0 (.long r.1) r.2) : XP ev_prog b_X3_bitsOf_0 [.double d0, z1, .int i2, .int i3, z4, z5, z6, z7, z8, z9, z10] [] M Q := by
  unfold F_X3_bitsOf_0 at h
  refine x_dloadn0.mpr ?_
  refine x_dconst0.mpr ?_
  refine x_dcmp.mpr ?_
  rcases ife h with ⟨hc, h⟩ | ⟨hc, h⟩
  · rw [x_if_ge, if_pos hc, bk_X3_bitsOf_11]
    exact sF_X3_bitsOf_11 h hq
  · rw [x_if_ge, if_neg hc]
    refine x_dloadn0.mpr ?_
    refine (x_dneg).mpr ?_
    refine x_goto.mpr ?_
    rw [bk_X3_bitsOf_12]
    exact sF_X3_bitsOf_12 h hq
def f_X3_bitsOf (d0 : UInt64) (i2 : Int32) (i3 : Int32) (M : ev_M) : Option (Int64 × ev_M) := F_X3_bitsOf_0 d0 i2 i3 M
theorem sf_X3_bitsOf {d0 : UInt64} {i2 : Int32} {i3 : Int32} {M : ev_M} {Q : Nat → Value → ev_M → Prop} {r : (Int64 × ev_M)} (h : f_X3_bitsOf d0 i2 i3 M = some r) (hq : Q 0 (.long r.1) r.2) : CX ev_prog 67 [.double d0, .int i2, .int i3] M Q := by
  rw [cx_open (ls := [.double d0, jk, .int i2, .int i3, jk, jk, jk, jk, jk, jk, jk]) bk_X3_bitsOf_0 rfl ml_X3_bitsOf rfl]
  exact sF_X3_bitsOf_0 h hq
def F_X3_toldOf_86 (d3 : UInt64)  (M : ev_M) : Option (Int64 × ev_M) := some ((FP.d2l d3), M)
theorem sF_X3_toldOf_86 {d3 : UInt64}  {z0 : Value} {z1 : Value} {z2 : Value} {z4 : Value} {z5 : Value} {z6 : Value} {M : ev_M} {Q : Nat → Value → ev_M → Prop} {r : (Int64 × ev_M)} (h : F_X3_toldOf_86 d3  M = some r) (hq : Q 0 (.long r.1) r.2) : XP ev_prog b_X3_toldOf_86 [z0, z1, z2, .double d3, z4, z5, z6] [] M Q := by
  unfold F_X3_toldOf_86 at h
  refine x_dloadn3.mpr ?_
  refine (x_d2l).mpr ?_
  cases h
  exact x_lreturn.mpr hq
def F_X3_toldOf_85  (s0 : Int64) (M : ev_M) : Option (Int64 × ev_M) := some (s0, M)
theorem sF_X3_toldOf_85  {s0 : Int64} {z0 : Value} {z1 : Value} {z2 : Value} {z3 : Value} {z4 : Value} {z5 : Value} {z6 : Value} {M : ev_M} {Q : Nat → Value → ev_M → Prop} {r : (Int64 × ev_M)} (h : F_X3_toldOf_85  s0 M = some r) (hq : Q 0 (.long r.1) r.2) : XP ev_prog b_X3_toldOf_85 [z0, z1, z2, z3, z4, z5, z6] [.long s0] M Q := by
  unfold F_X3_toldOf_85 at h
  refine x_kill.mpr ?_
  show XP ev_prog _ [jk, jk, jk, jk, jk, jk, jk] [.long s0] M Q
  cases h
  exact x_lreturn.mpr hq
def F_X3_toldOf_83 (j5 : Int64)  (M : ev_M) : Option (Int64 × ev_M) := F_X3_toldOf_85  j5 M
theorem sF_X3_toldOf_83 {j5 : Int64}  {z0 : Value} {z1 : Value} {z2 : Value} {z3 : Value} {z4 : Value} {z6 : Value} {M : ev_M} {Q : Nat → Value → ev_M → Prop} {r : (Int64 × ev_M)} (h : F_X3_toldOf_83 j5  M = some r) (hq : Q 0 (.long r.1) r.2) : XP ev_prog b_X3_toldOf_83 [z0, z1, z2, z3, z4, .long j5, z6] [] M Q := by
  unfold F_X3_toldOf_83 at h
  refine x_lload5.mpr ?_
  refine x_fall.mpr ?_
  rw [bk_X3_toldOf_85]
  exact sF_X3_toldOf_85 h hq
def F_X3_toldOf_52 (i2 : Int32) (d3 : UInt64)  (M : ev_M) : Option (Int64 × ev_M) := (if ¬ i2 = (iI (3)) then F_X3_toldOf_86 d3  M else (f_X3_bitsOf d3 (iI (52)) (iI (-1022)) M).bind fun r63_1 => (if 0 ≤ (Op.cmpValue (FP.dcmp d3 FP.dconst0) .g) then F_X3_toldOf_83 r63_1.1  r63_1.2 else F_X3_toldOf_85  (r63_1.1 ||| (lI (-(9223372036854775808 : Nat)))) r63_1.2))
theorem sF_X3_toldOf_52 {i2 : Int32} {d3 : UInt64}  {z0 : Value} {z1 : Value} {z4 : Value} {z5 : Value} {z6 : Value} {M : ev_M} {Q : Nat → Value → ev_M → Prop} {r : (Int64 × ev_M)} (h : F_X3_toldOf_52 i2 d3  M = some r) (hq : Q 0 (.long r.1) r.2) : XP ev_prog b_X3_toldOf_52 [z0, z1, .int i2, .double d3, z4, z5, z6] [] M Q := by
  unfold F_X3_toldOf_52 at h
  refine x_iloadn2.mpr ?_
  refine x_iconst.mpr ?_
  rcases ife h with ⟨hc, h⟩ | ⟨hc, h⟩
  · rw [x_icmp_ne, if_pos hc, bk_X3_toldOf_86]
    exact sF_X3_toldOf_86 h hq
  · rw [x_icmp_ne, if_neg hc]
    refine x_dloadn3.mpr ?_
    refine (x_bipush (by decide)).mpr ?_
    refine (x_sipush (by decide)).mpr ?_
    obtain ⟨r63_1, hz, h⟩ := Option.bind_eq_some_iff.mp h
    refine (y_stat3 ml_X3_bitsOf (by show 4 ≤ 11; decide) (by decide) (by decide) (by show ¬ 8 < 0; decide)).mpr ?_
    refine sf_X3_bitsOf hz ?_
    refine xk0.mpr ?_
    show XP ev_prog _ _ (.long r63_1.1 :: _) r63_1.2 Q
    refine x_lstore5.mpr ?_
    refine x_dloadn3.mpr ?_
    refine x_dconst0.mpr ?_
    refine x_dcmp.mpr ?_
    rcases ife h with ⟨hc, h⟩ | ⟨hc, h⟩
    · rw [x_if_ge, if_pos hc, bk_X3_toldOf_83]
      exact sF_X3_toldOf_83 h hq
    · rw [x_if_ge, if_neg hc]
      refine x_lload5.mpr ?_
      refine x_ldc21.mpr ?_
      refine (x_lor).mpr ?_
      refine x_goto.mpr ?_
      rw [bk_X3_toldOf_85]
      exact sF_X3_toldOf_85 h hq
def F_X3_toldOf_51  (s0 : Int64) (M : ev_M) : Option (Int64 × ev_M) := some (s0, M)
theorem sF_X3_toldOf_51  {s0 : Int64} {z0 : Value} {z1 : Value} {z2 : Value} {z3 : Value} {z4 : Value} {z5 : Value} {z6 : Value} {M : ev_M} {Q : Nat → Value → ev_M → Prop} {r : (Int64 × ev_M)} (h : F_X3_toldOf_51  s0 M = some r) (hq : Q 0 (.long r.1) r.2) : XP ev_prog b_X3_toldOf_51 [z0, z1, z2, z3, z4, z5, z6] [.long s0] M Q := by
  unfold F_X3_toldOf_51 at h
  refine x_kill.mpr ?_
  show XP ev_prog _ [jk, jk, jk, jk, jk, jk, jk] [.long s0] M Q
  cases h
  exact x_lreturn.mpr hq
def F_X3_toldOf_48 (i5 : Int32)  (M : ev_M) : Option (Int64 × ev_M) := F_X3_toldOf_51  (i5).toInt64 M
theorem sF_X3_toldOf_48 {i5 : Int32}  {z0 : Value} {z1 : Value} {z2 : Value} {z3 : Value} {z4 : Value} {z6 : Value} {M : ev_M} {Q : Nat → Value → ev_M → Prop} {r : (Int64 × ev_M)} (h : F_X3_toldOf_48 i5  M = some r) (hq : Q 0 (.long r.1) r.2) : XP ev_prog b_X3_toldOf_48 [z0, z1, z2, z3, z4, .int i5, z6] [] M Q := by
  unfold F_X3_toldOf_48 at h
  refine x_iload5.mpr ?_
  refine (x_i2l).mpr ?_
  refine x_fall.mpr ?_
  rw [bk_X3_toldOf_51]
  exact sF_X3_toldOf_51 h hq
def F_X3_toldOf_0 (a0 : Nat) (i1 : Int32)  (M : ev_M) : Option (Int64 × ev_M) := (if ([2] : List Nat).contains (mK M a0) = true then (if ¬ (iI (24)) = 0 then (if ev_isI (mK M (mA M a0 0)) = true ∧ ev_in (i1 / (iI (24))) (mN M (mA M a0 0)) = true then (if ([2] : List Nat).contains (mK M a0) = true then (if mK M (mA M a0 2) = 43 ∧ ev_in i1 (mN M (mA M a0 2)) = true then (if ¬ (mI M (mA M a0 0) (ev_ix (i1 / (iI (24))))) = (iI (2)) then F_X3_toldOf_52 (mI M (mA M a0 0) (ev_ix (i1 / (iI (24))))) (mD M (mA M a0 2) (ev_ix i1))  M else (f_X3_bitsOf (mD M (mA M a0 2) (ev_ix i1)) (iI (23)) (iI (-126)) M).bind fun r27_1 => (if 0 ≤ (Op.cmpValue (FP.dcmp (mD M (mA M a0 2) (ev_ix i1)) FP.dconst0) .g) then F_X3_toldOf_48 (r27_1.1).toInt32  r27_1.2 else F_X3_toldOf_51  (((r27_1.1).toInt32 ||| (iI (-(2147483648 : Nat))))).toInt64 r27_1.2)) else none) else none) else none) else none) else none)
theorem sF_X3_toldOf_0 {a0 : Nat} {i1 : Int32}  {z2 : Value} {z3 : Value} {z4 : Value} {z5 : Value} {z6 : Value} {M : ev_M} {Q : Nat → Value → ev_M → Prop} {r : (Int64 × ev_M)} (h : F_X3_toldOf_0 a0 i1  M = some r) (hq : Q 0 (.long r.1) r.2) : XP ev_prog b_X3_toldOf_0 [.ref a0, .int i1, z2, z3, z4, z5, z6] [] M Q := by
  unfold F_X3_toldOf_0 at h
  refine x_aloadn0.mpr ?_
  obtain ⟨hc, h⟩ := gd h
  refine (x_getf4 hc).mpr ?_
  refine x_iloadn1.mpr ?_
  refine (x_bipush (by decide)).mpr ?_
  obtain ⟨hc, h⟩ := gd h
  refine (x_idiv hc).mpr ?_
  obtain ⟨hc, h⟩ := gd h
  refine (x_iaload hc.1 hc.2).mpr ?_
  refine x_istoren2.mpr ?_
  refine x_aloadn0.mpr ?_
  obtain ⟨hc, h⟩ := gd h
  refine (x_getf4 hc).mpr ?_
  refine x_iloadn1.mpr ?_
  obtain ⟨hc, h⟩ := gd h
  refine (x_daload hc.1 hc.2).mpr ?_
  refine x_dstoren3.mpr ?_
  refine x_iloadn2.mpr ?_
  refine x_iconst.mpr ?_
  rcases ife h with ⟨hc, h⟩ | ⟨hc, h⟩
  · rw [x_icmp_ne, if_pos hc, bk_X3_toldOf_52]
    exact sF_X3_toldOf_52 h hq
  · rw [x_icmp_ne, if_neg hc]
    refine x_dloadn3.mpr ?_
    refine (x_bipush (by decide)).mpr ?_
    refine (x_bipush (by decide)).mpr ?_
    obtain ⟨r27_1, hz, h⟩ := Option.bind_eq_some_iff.mp h
    refine (y_stat3 ml_X3_bitsOf (by show 4 ≤ 11; decide) (by decide) (by decide) (by show ¬ 8 < 0; decide)).mpr ?_
    refine sf_X3_bitsOf hz ?_
    refine xk0.mpr ?_
    show XP ev_prog _ _ (.long r27_1.1 :: _) r27_1.2 Q
    refine (x_l2i).mpr ?_
    refine x_istore5.mpr ?_
    refine x_dloadn3.mpr ?_
    refine x_dconst0.mpr ?_
    refine x_dcmp.mpr ?_
    rcases ife h with ⟨hc, h⟩ | ⟨hc, h⟩
    · rw [x_if_ge, if_pos hc, bk_X3_toldOf_48]
      exact sF_X3_toldOf_48 h hq
    · rw [x_if_ge, if_neg hc]
      refine x_iload5.mpr ?_
      refine x_ldc1.mpr ?_
      refine (x_ior).mpr ?_
      refine (x_i2l).mpr ?_
      refine x_goto.mpr ?_
      rw [bk_X3_toldOf_51]
      exact sF_X3_toldOf_51 h hq
def f_X3_toldOf (a0 : Nat) (i1 : Int32) (M : ev_M) : Option (Int64 × ev_M) := F_X3_toldOf_0 a0 i1 M
theorem sf_X3_toldOf {a0 : Nat} {i1 : Int32} {M : ev_M} {Q : Nat → Value → ev_M → Prop} {r : (Int64 × ev_M)} (h : f_X3_toldOf a0 i1 M = some r) (hq : Q 0 (.long r.1) r.2) : CX ev_prog 68 [.ref a0, .int i1] M Q := by
  rw [cx_open (ls := [.ref a0, .int i1, jk, jk, jk, jk, jk]) bk_X3_toldOf_0 rfl ml_X3_toldOf rfl]
  exact sF_X3_toldOf_0 h hq
def F_X3_get_45  (s0 : Int64) (M : ev_M) : Option (Int64 × ev_M) := some (s0, M)
theorem sF_X3_get_45  {s0 : Int64} {z0 : Value} {z1 : Value} {z2 : Value} {z3 : Value} {M : ev_M} {Q : Nat → Value → ev_M → Prop} {r : (Int64 × ev_M)} (h : F_X3_get_45  s0 M = some r) (hq : Q 0 (.long r.1) r.2) : XP ev_prog b_X3_get_45 [z0, z1, z2, z3] [.long s0] M Q := by
  unfold F_X3_get_45 at h
  refine x_kill.mpr ?_
  show XP ev_prog _ [jk, jk, jk, jk] [.long s0] M Q
  cases h
  exact x_lreturn.mpr hq
def F_X3_get_35 (a0 : Nat) (i1 : Int32) (i2 : Int32)  (M : ev_M) : Option (Int64 × ev_M) := (if ¬ a0 = 0 ∧ mK M a0 = 2 then (f_X3_toldOf a0 (((iI (24)) * i1) + i2) M).bind fun r42_1 => F_X3_get_45  r42_1.1 r42_1.2 else none)
theorem sF_X3_get_35 {a0 : Nat} {i1 : Int32} {i2 : Int32}  {z3 : Value} {M : ev_M} {Q : Nat → Value → ev_M → Prop} {r : (Int64 × ev_M)} (h : F_X3_get_35 a0 i1 i2  M = some r) (hq : Q 0 (.long r.1) r.2) : XP ev_prog b_X3_get_35 [.ref a0, .int i1, .int i2, z3] [] M Q := by
  unfold F_X3_get_35 at h
  refine x_aloadn0.mpr ?_
  refine (x_bipush (by decide)).mpr ?_
  refine x_iloadn1.mpr ?_
  refine (x_imul).mpr ?_
  refine x_iloadn2.mpr ?_
  refine (x_iadd).mpr ?_
  obtain ⟨hc, h⟩ := gd h
  obtain ⟨r42_1, hz, h⟩ := Option.bind_eq_some_iff.mp h
  refine (y_virt2 ml_X3_toldOf (by show 2 ≤ 7; decide) hc.1 hc.2 rfl (by decide) (by show ¬ 8 < 0; decide)).mpr ?_
  refine sf_X3_toldOf hz ?_
  refine xk0.mpr ?_
  show XP ev_prog _ _ (.long r42_1.1 :: _) r42_1.2 Q
  refine x_fall.mpr ?_
  rw [bk_X3_get_45]
  exact sF_X3_get_45 h hq
def F_X3_get_13 (a0 : Nat) (i1 : Int32) (i2 : Int32)  (M : ev_M) : Option (Int64 × ev_M) := (if ¬ a0 = 0 ∧ mK M a0 = 2 then (f_X3_lacks a0 i1 i2 M).bind fun r16_1 => (if r16_1.1 ≤ 0 then F_X3_get_35 a0 i1 i2  r16_1.2 else (if ¬ a0 = 0 ∧ mK r16_1.2 a0 = 2 then (f_X3_meets a0 r16_1.1 r16_1.2).bind fun r26_1 => (f_X3_no r26_1.1 r26_1.2).bind fun r29_2 => F_X3_get_45  r29_2.1 r29_2.2 else none)) else none)
theorem sF_X3_get_13 {a0 : Nat} {i1 : Int32} {i2 : Int32}  {z3 : Value} {M : ev_M} {Q : Nat → Value → ev_M → Prop} {r : (Int64 × ev_M)} (h : F_X3_get_13 a0 i1 i2  M = some r) (hq : Q 0 (.long r.1) r.2) : XP ev_prog b_X3_get_13 [.ref a0, .int i1, .int i2, z3] [] M Q := by
  unfold F_X3_get_13 at h
  refine x_aloadn0.mpr ?_
  refine x_iloadn1.mpr ?_
  refine x_iloadn2.mpr ?_
  obtain ⟨hc, h⟩ := gd h
  obtain ⟨r16_1, hz, h⟩ := Option.bind_eq_some_iff.mp h
  refine (y_virt3 ml_X3_lacks (by show 3 ≤ 3; decide) hc.1 hc.2 rfl (by decide) (by show ¬ 8 < 0; decide)).mpr ?_
  refine sf_X3_lacks hz ?_
  refine xk0.mpr ?_
  show XP ev_prog _ _ (.int r16_1.1 :: _) r16_1.2 Q
  refine x_istoren3.mpr ?_
  refine x_iloadn3.mpr ?_
  rcases ife h with ⟨hc, h⟩ | ⟨hc, h⟩
  · rw [x_if_le, if_pos hc, bk_X3_get_35]
    exact sF_X3_get_35 h hq
  · rw [x_if_le, if_neg hc]
    refine x_aloadn0.mpr ?_
    refine x_iloadn3.mpr ?_
    obtain ⟨hc, h⟩ := gd h
    obtain ⟨r26_1, hz, h⟩ := Option.bind_eq_some_iff.mp h
    refine (y_virt2 ml_X3_meets (by show 2 ≤ 2; decide) hc.1 hc.2 rfl (by decide) (by show ¬ 8 < 0; decide)).mpr ?_
    refine sf_X3_meets hz ?_
    refine xk0.mpr ?_
    show XP ev_prog _ _ (.int r26_1.1 :: _) r26_1.2 Q
    obtain ⟨r29_2, hz, h⟩ := Option.bind_eq_some_iff.mp h
    refine (y_stat1 ml_X3_no (by show 1 ≤ 1; decide) (by decide) (by decide) (by show ¬ 8 < 0; decide)).mpr ?_
    refine sf_X3_no hz ?_
    refine xk0.mpr ?_
    show XP ev_prog _ _ (.long r29_2.1 :: _) r29_2.2 Q
    refine x_goto.mpr ?_
    rw [bk_X3_get_45]
    exact sF_X3_get_45 h hq
def F_X3_get_0 (a0 : Nat) (i1 : Int32) (i2 : Int32)  (M : ev_M) : Option (Int64 × ev_M) := (f_X3_isRow i1 M).bind fun r1_1 => (if ¬ r1_1.1 = 0 then F_X3_get_13 a0 i1 i2  r1_1.2 else (f_X3_no (iI (-2)) r1_1.2).bind fun r9_1 => some (r9_1.1, r9_1.2))
theorem sF_X3_get_0 {a0 : Nat} {i1 : Int32} {i2 : Int32}  {z3 : Value} {M : ev_M} {Q : Nat → Value → ev_M → Prop} {r : (Int64 × ev_M)} (h : F_X3_get_0 a0 i1 i2  M = some r) (hq : Q 0 (.long r.1) r.2) : XP ev_prog b_X3_get_0 [.ref a0, .int i1, .int i2, z3] [] M Q := by
  unfold F_X3_get_0 at h
  refine x_iloadn1.mpr ?_
  obtain ⟨r1_1, hz, h⟩ := Option.bind_eq_some_iff.mp h
  refine (y_stat1 ml_X3_isRow (by show 1 ≤ 1; decide) (by decide) (by decide) (by show ¬ 8 < 0; decide)).mpr ?_
  refine sf_X3_isRow hz ?_
  refine xk0.mpr ?_
  show XP ev_prog _ _ (.int r1_1.1 :: _) r1_1.2 Q
  rcases ife h with ⟨hc, h⟩ | ⟨hc, h⟩
  · rw [x_if_ne, if_pos hc, bk_X3_get_13]
    exact sF_X3_get_13 h hq
  · rw [x_if_ne, if_neg hc]
    refine (x_bipush (by decide)).mpr ?_
    obtain ⟨r9_1, hz, h⟩ := Option.bind_eq_some_iff.mp h
    refine (y_stat1 ml_X3_no (by show 1 ≤ 1; decide) (by decide) (by decide) (by show ¬ 8 < 0; decide)).mpr ?_
    refine sf_X3_no hz ?_
    refine xk0.mpr ?_
    show XP ev_prog _ _ (.long r9_1.1 :: _) r9_1.2 Q
    cases h
    exact x_lreturn.mpr hq
def f_X3_get (a0 : Nat) (i1 : Int32) (i2 : Int32) (M : ev_M) : Option (Int64 × ev_M) := F_X3_get_0 a0 i1 i2 M
theorem sf_X3_get {a0 : Nat} {i1 : Int32} {i2 : Int32} {M : ev_M} {Q : Nat → Value → ev_M → Prop} {r : (Int64 × ev_M)} (h : f_X3_get a0 i1 i2 M = some r) (hq : Q 0 (.long r.1) r.2) : CX ev_prog 69 [.ref a0, .int i1, .int i2] M Q := by
  rw [cx_open (ls := [.ref a0, .int i1, .int i2, jk]) bk_X3_get_0 rfl ml_X3_get rfl]
  exact sF_X3_get_0 h hq
def F_X3_copy_14   (M : ev_M) : Option (Int32 × ev_M) := some ((iI (-2)), M)
theorem sF_X3_copy_14   {z0 : Value} {z1 : Value} {z2 : Value} {z3 : Value} {z4 : Value} {z5 : Value} {z6 : Value} {M : ev_M} {Q : Nat → Value → ev_M → Prop} {r : (Int32 × ev_M)} (h : F_X3_copy_14   M = some r) (hq : Q 0 (.int r.1) r.2) : XP ev_prog b_X3_copy_14 [z0, z1, z2, z3, z4, z5, z6] [] M Q := by
  unfold F_X3_copy_14 at h
  refine x_kill.mpr ?_
  show XP ev_prog _ [jk, jk, jk, jk, jk, jk, jk] [] M Q
  refine (x_bipush (by decide)).mpr ?_
  cases h
  exact x_ireturn.mpr hq
def F_X3_copy_37 (a0 : Nat)  (M : ev_M) : Option (Int32 × ev_M) := (if ¬ a0 = 0 ∧ mK M a0 = 2 then (f_X3_meets a0 (iI (1)) M).bind fun r39_1 => some (r39_1.1, r39_1.2) else none)
theorem sF_X3_copy_37 {a0 : Nat}  {z1 : Value} {z2 : Value} {z3 : Value} {z4 : Value} {z5 : Value} {z6 : Value} {M : ev_M} {Q : Nat → Value → ev_M → Prop} {r : (Int32 × ev_M)} (h : F_X3_copy_37 a0  M = some r) (hq : Q 0 (.int r.1) r.2) : XP ev_prog b_X3_copy_37 [.ref a0, z1, z2, z3, z4, z5, z6] [] M Q := by
  unfold F_X3_copy_37 at h
  refine x_kill.mpr ?_
  show XP ev_prog _ [.ref a0, jk, jk, jk, jk, jk, jk] [] M Q
  refine x_aloadn0.mpr ?_
  refine x_iconst.mpr ?_
  obtain ⟨hc, h⟩ := gd h
  obtain ⟨r39_1, hz, h⟩ := Option.bind_eq_some_iff.mp h
  refine (y_virt2 ml_X3_meets (by show 2 ≤ 2; decide) hc.1 hc.2 rfl (by decide) (by show ¬ 8 < 0; decide)).mpr ?_
  refine sf_X3_meets hz ?_
  refine xk0.mpr ?_
  show XP ev_prog _ _ (.int r39_1.1 :: _) r39_1.2 Q
  cases h
  exact x_ireturn.mpr hq
def F_X3_copy_113 (a0 : Nat)  (M : ev_M) : Option (Int32 × ev_M) := (if ¬ a0 = 0 ∧ mK M a0 = 2 then (f_X3_meets a0 (iI (2)) M).bind fun r115_1 => some (r115_1.1, r115_1.2) else none)
theorem sF_X3_copy_113 {a0 : Nat}  {z1 : Value} {z2 : Value} {z3 : Value} {z4 : Value} {z5 : Value} {z6 : Value} {M : ev_M} {Q : Nat → Value → ev_M → Prop} {r : (Int32 × ev_M)} (h : F_X3_copy_113 a0  M = some r) (hq : Q 0 (.int r.1) r.2) : XP ev_prog b_X3_copy_113 [.ref a0, z1, z2, z3, z4, z5, z6] [] M Q := by
  unfold F_X3_copy_113 at h
  refine x_kill.mpr ?_
  show XP ev_prog _ [.ref a0, jk, jk, jk, jk, jk, jk] [] M Q
  refine x_aloadn0.mpr ?_
  refine x_iconst.mpr ?_
  obtain ⟨hc, h⟩ := gd h
  obtain ⟨r115_1, hz, h⟩ := Option.bind_eq_some_iff.mp h
  refine (y_virt2 ml_X3_meets (by show 2 ≤ 2; decide) hc.1 hc.2 rfl (by decide) (by show ¬ 8 < 0; decide)).mpr ?_
  refine sf_X3_meets hz ?_
  refine xk0.mpr ?_
  show XP ev_prog _ _ (.int r115_1.1 :: _) r115_1.2 Q
  cases h
  exact x_ireturn.mpr hq
def F_X3_copy_194   (M : ev_M) : Option (Int32 × ev_M) := some ((iI (1)), M)
theorem sF_X3_copy_194   {z0 : Value} {z1 : Value} {z2 : Value} {z3 : Value} {z4 : Value} {z5 : Value} {z6 : Value} {M : ev_M} {Q : Nat → Value → ev_M → Prop} {r : (Int32 × ev_M)} (h : F_X3_copy_194   M = some r) (hq : Q 0 (.int r.1) r.2) : XP ev_prog b_X3_copy_194 [z0, z1, z2, z3, z4, z5, z6] [] M Q := by
  unfold F_X3_copy_194 at h
  refine x_iconst.mpr ?_
  cases h
  exact x_ireturn.mpr hq
def F_X3_copy_159_p1 (k159 : Nat → Int32 → Int32 → Int32 → Int32 → ev_M → Option (Int32 × ev_M)) (a0 : Nat) (i3 : Int32) (i4 : Int32) (i5 : Int32) (i6 : Int32)  (M : ev_M) : Option (Int32 × ev_M) := k159 a0 i3 i4 i5 (i6 + iI (1)) M
theorem sF_X3_copy_159_p1 {k159 : Nat → Int32 → Int32 → Int32 → Int32 → ev_M → Option (Int32 × ev_M)} (hk159 : ∀ (a0 : Nat) (i3 : Int32) (i4 : Int32) (i5 : Int32) (i6 : Int32) (M : ev_M) (r : (Int32 × ev_M)), k159 a0 i3 i4 i5 i6 M = some r → ∀ (z1 : Value) (z2 : Value) (Q : Nat → Value → ev_M → Prop), Q 0 (.int r.1) r.2 → XP ev_prog b_X3_copy_159 [.ref a0, z1, z2, .int i3, .int i4, .int i5, .int i6] [] M Q){a0 : Nat} {i3 : Int32} {i4 : Int32} {i5 : Int32} {i6 : Int32}  {z1 : Value} {z2 : Value} {M : ev_M} {Q : Nat → Value → ev_M → Prop} {r : (Int32 × ev_M)} (h : F_X3_copy_159_p1 k159 a0 i3 i4 i5 i6  M = some r) (hq : Q 0 (.int r.1) r.2) : XP ev_prog [((.iinc 6 1, 3, []), []), ((.goto (-32), 3, [290975]), [])] [.ref a0, z1, z2, .int i3, .int i4, .int i5, .int i6] [] M Q := by
  unfold F_X3_copy_159_p1 at h
  refine x_iinc6.mpr ?_
  refine x_goto.mpr ?_
  rw [bk_X3_copy_159]
  exact hk159 _ _ _ _ _ _ _ _ h _ _ _ hq
def F_X3_copy_159 (k159 : Nat → Int32 → Int32 → Int32 → Int32 → ev_M → Option (Int32 × ev_M)) (a0 : Nat) (i3 : Int32) (i4 : Int32) (i5 : Int32) (i6 : Int32)  (M : ev_M) : Option (Int32 × ev_M) := (if i5 ≤ i6 then F_X3_copy_194   M else (if ([2] : List Nat).contains (mK M a0) = true then (if ([2] : List Nat).contains (mK M a0) = true then (if mK M (mA M a0 5) = 43 ∧ ev_in i6 (mN M (mA M a0 5)) = true then (if mK M (mA M a0 2) = 43 ∧ ev_in ((((iI (24)) * i3) + i4) + i6) (mN M (mA M a0 2)) = true then F_X3_copy_159_p1 k159 a0 i3 i4 i5 i6  (wD M (mA M a0 2) (ev_ix ((((iI (24)) * i3) + i4) + i6)) (mD M (mA M a0 5) (ev_ix i6))) else none) else none) else none) else none))
theorem sF_X3_copy_159 {k159 : Nat → Int32 → Int32 → Int32 → Int32 → ev_M → Option (Int32 × ev_M)} (hk159 : ∀ (a0 : Nat) (i3 : Int32) (i4 : Int32) (i5 : Int32) (i6 : Int32) (M : ev_M) (r : (Int32 × ev_M)), k159 a0 i3 i4 i5 i6 M = some r → ∀ (z1 : Value) (z2 : Value) (Q : Nat → Value → ev_M → Prop), Q 0 (.int r.1) r.2 → XP ev_prog b_X3_copy_159 [.ref a0, z1, z2, .int i3, .int i4, .int i5, .int i6] [] M Q){a0 : Nat} {i3 : Int32} {i4 : Int32} {i5 : Int32} {i6 : Int32}  {z1 : Value} {z2 : Value} {M : ev_M} {Q : Nat → Value → ev_M → Prop} {r : (Int32 × ev_M)} (h : F_X3_copy_159 k159 a0 i3 i4 i5 i6  M = some r) (hq : Q 0 (.int r.1) r.2) : XP ev_prog b_X3_copy_159 [.ref a0, z1, z2, .int i3, .int i4, .int i5, .int i6] [] M Q := by
  unfold F_X3_copy_159 at h
  refine x_kill.mpr ?_
  show XP ev_prog _ [.ref a0, jk, jk, .int i3, .int i4, .int i5, .int i6] [] M Q
  refine x_iload6.mpr ?_
  refine x_iload5.mpr ?_
  rcases ife h with ⟨hc, h⟩ | ⟨hc, h⟩
  · rw [x_icmp_ge, if_pos hc, bk_X3_copy_194]
    exact sF_X3_copy_194 h hq
  · rw [x_icmp_ge, if_neg hc]
    refine x_aloadn0.mpr ?_
    obtain ⟨hc, h⟩ := gd h
    refine (x_getf4 hc).mpr ?_
    refine (x_bipush (by decide)).mpr ?_
    refine x_iloadn3.mpr ?_
    refine (x_imul).mpr ?_
    refine x_iload4.mpr ?_
    refine (x_iadd).mpr ?_
    refine x_iload6.mpr ?_
    refine (x_iadd).mpr ?_
    refine x_aloadn0.mpr ?_
    obtain ⟨hc, h⟩ := gd h
    refine (x_getf4 hc).mpr ?_
    refine x_iload6.mpr ?_
    obtain ⟨hc, h⟩ := gd h
    refine (x_daload hc.1 hc.2).mpr ?_
    obtain ⟨hc, h⟩ := gd h
    refine (x_dastore hc.1 hc.2).mpr ?_
    exact sF_X3_copy_159_p1 hk159 h hq
def W_X3_copy_159 : Nat → Nat → Int32 → Int32 → Int32 → Int32 → ev_M → Option (Int32 × ev_M)
  | 0 => fun _ => fun _ => fun _ => fun _ => fun _ => fun _ => none
  | n + 1 => fun a0 i3 i4 i5 i6 M => F_X3_copy_159 (W_X3_copy_159 n) a0 i3 i4 i5 i6 M
theorem sW_X3_copy_159  : ∀ (n : Nat) {a0 : Nat} {i3 : Int32} {i4 : Int32} {i5 : Int32} {i6 : Int32} {M : ev_M} {r : (Int32 × ev_M)} (h : W_X3_copy_159 n a0 i3 i4 i5 i6 M = some r) {z1 : Value} {z2 : Value} {Q : Nat → Value → ev_M → Prop} (hq : Q 0 (.int r.1) r.2), XP ev_prog b_X3_copy_159 [.ref a0, z1, z2, .int i3, .int i4, .int i5, .int i6] [] M Q := by
  intro n
  induction n with
  | zero => intro a0 i3 i4 i5 i6 M r h; cases h
  | succ n ih => intro a0 i3 i4 i5 i6 M r h z1 z2 Q hq; exact sF_X3_copy_159 (fun a0 i3 i4 i5 i6 M r h z1 z2 Q hq => ih h hq) h hq
def F_X3_copy_156 (a0 : Nat) (i3 : Int32) (i4 : Int32) (i5 : Int32)  (M : ev_M) : Option (Int32 × ev_M) := W_X3_copy_159 5000 a0 i3 i4 i5 (iI (0)) M
theorem sF_X3_copy_156 {a0 : Nat} {i3 : Int32} {i4 : Int32} {i5 : Int32}  {z1 : Value} {z2 : Value} {z6 : Value} {M : ev_M} {Q : Nat → Value → ev_M → Prop} {r : (Int32 × ev_M)} (h : F_X3_copy_156 a0 i3 i4 i5  M = some r) (hq : Q 0 (.int r.1) r.2) : XP ev_prog b_X3_copy_156 [.ref a0, z1, z2, .int i3, .int i4, .int i5, z6] [] M Q := by
  unfold F_X3_copy_156 at h
  refine x_iconst.mpr ?_
  refine x_istore6.mpr ?_
  refine x_fall.mpr ?_
  rw [bk_X3_copy_159]
  exact sW_X3_copy_159 5000 h hq
def F_X3_copy_122_p1 (k122 : Nat → Int32 → Int32 → Int32 → Int32 → Int32 → Int32 → ev_M → Option (Int32 × ev_M)) (a0 : Nat) (i1 : Int32) (i2 : Int32) (i3 : Int32) (i4 : Int32) (i5 : Int32) (i6 : Int32)  (M : ev_M) : Option (Int32 × ev_M) := k122 a0 i1 i2 i3 i4 i5 (i6 + iI (1)) M
theorem sF_X3_copy_122_p1 {k122 : Nat → Int32 → Int32 → Int32 → Int32 → Int32 → Int32 → ev_M → Option (Int32 × ev_M)} (hk122 : ∀ (a0 : Nat) (i1 : Int32) (i2 : Int32) (i3 : Int32) (i4 : Int32) (i5 : Int32) (i6 : Int32) (M : ev_M) (r : (Int32 × ev_M)), k122 a0 i1 i2 i3 i4 i5 i6 M = some r → ∀ (Q : Nat → Value → ev_M → Prop), Q 0 (.int r.1) r.2 → XP ev_prog b_X3_copy_122 [.ref a0, .int i1, .int i2, .int i3, .int i4, .int i5, .int i6] [] M Q){a0 : Nat} {i1 : Int32} {i2 : Int32} {i3 : Int32} {i4 : Int32} {i5 : Int32} {i6 : Int32}   {M : ev_M} {Q : Nat → Value → ev_M → Prop} {r : (Int32 × ev_M)} (h : F_X3_copy_122_p1 k122 a0 i1 i2 i3 i4 i5 i6  M = some r) (hq : Q 0 (.int r.1) r.2) : XP ev_prog [((.iinc 6 1, 3, []), []), ((.goto (-31), 3, [290938]), [])] [.ref a0, .int i1, .int i2, .int i3, .int i4, .int i5, .int i6] [] M Q := by
  unfold F_X3_copy_122_p1 at h
  refine x_iinc6.mpr ?_
  refine x_goto.mpr ?_
  rw [bk_X3_copy_122]
  exact hk122 _ _ _ _ _ _ _ _ _ _ h _ hq
def F_X3_copy_122 (k122 : Nat → Int32 → Int32 → Int32 → Int32 → Int32 → Int32 → ev_M → Option (Int32 × ev_M)) (a0 : Nat) (i1 : Int32) (i2 : Int32) (i3 : Int32) (i4 : Int32) (i5 : Int32) (i6 : Int32)  (M : ev_M) : Option (Int32 × ev_M) := (if i5 ≤ i6 then F_X3_copy_156 a0 i3 i4 i5  M else (if ([2] : List Nat).contains (mK M a0) = true then (if ([2] : List Nat).contains (mK M a0) = true then (if mK M (mA M a0 2) = 43 ∧ ev_in ((((iI (24)) * i1) + i2) + i6) (mN M (mA M a0 2)) = true then (if mK M (mA M a0 5) = 43 ∧ ev_in i6 (mN M (mA M a0 5)) = true then F_X3_copy_122_p1 k122 a0 i1 i2 i3 i4 i5 i6  (wD M (mA M a0 5) (ev_ix i6) (mD M (mA M a0 2) (ev_ix ((((iI (24)) * i1) + i2) + i6)))) else none) else none) else none) else none))
theorem sF_X3_copy_122 {k122 : Nat → Int32 → Int32 → Int32 → Int32 → Int32 → Int32 → ev_M → Option (Int32 × ev_M)} (hk122 : ∀ (a0 : Nat) (i1 : Int32) (i2 : Int32) (i3 : Int32) (i4 : Int32) (i5 : Int32) (i6 : Int32) (M : ev_M) (r : (Int32 × ev_M)), k122 a0 i1 i2 i3 i4 i5 i6 M = some r → ∀ (Q : Nat → Value → ev_M → Prop), Q 0 (.int r.1) r.2 → XP ev_prog b_X3_copy_122 [.ref a0, .int i1, .int i2, .int i3, .int i4, .int i5, .int i6] [] M Q){a0 : Nat} {i1 : Int32} {i2 : Int32} {i3 : Int32} {i4 : Int32} {i5 : Int32} {i6 : Int32}   {M : ev_M} {Q : Nat → Value → ev_M → Prop} {r : (Int32 × ev_M)} (h : F_X3_copy_122 k122 a0 i1 i2 i3 i4 i5 i6  M = some r) (hq : Q 0 (.int r.1) r.2) : XP ev_prog b_X3_copy_122 [.ref a0, .int i1, .int i2, .int i3, .int i4, .int i5, .int i6] [] M Q := by
  unfold F_X3_copy_122 at h
  refine x_iload6.mpr ?_
  refine x_iload5.mpr ?_
  rcases ife h with ⟨hc, h⟩ | ⟨hc, h⟩
  · rw [x_icmp_ge, if_pos hc, bk_X3_copy_156]
    exact sF_X3_copy_156 h hq
  · rw [x_icmp_ge, if_neg hc]
    refine x_aloadn0.mpr ?_
    obtain ⟨hc, h⟩ := gd h
    refine (x_getf4 hc).mpr ?_
    refine x_iload6.mpr ?_
    refine x_aloadn0.mpr ?_
    obtain ⟨hc, h⟩ := gd h
    refine (x_getf4 hc).mpr ?_
    refine (x_bipush (by decide)).mpr ?_
    refine x_iloadn1.mpr ?_
    refine (x_imul).mpr ?_
    refine x_iloadn2.mpr ?_
    refine (x_iadd).mpr ?_
    refine x_iload6.mpr ?_
    refine (x_iadd).mpr ?_
    obtain ⟨hc, h⟩ := gd h
    refine (x_daload hc.1 hc.2).mpr ?_
    obtain ⟨hc, h⟩ := gd h
    refine (x_dastore hc.1 hc.2).mpr ?_
    exact sF_X3_copy_122_p1 hk122 h hq
def W_X3_copy_122 : Nat → Nat → Int32 → Int32 → Int32 → Int32 → Int32 → Int32 → ev_M → Option (Int32 × ev_M)
  | 0 => fun _ => fun _ => fun _ => fun _ => fun _ => fun _ => fun _ => fun _ => none
  | n + 1 => fun a0 i1 i2 i3 i4 i5 i6 M => F_X3_copy_122 (W_X3_copy_122 n) a0 i1 i2 i3 i4 i5 i6 M
theorem sW_X3_copy_122  : ∀ (n : Nat) {a0 : Nat} {i1 : Int32} {i2 : Int32} {i3 : Int32} {i4 : Int32} {i5 : Int32} {i6 : Int32} {M : ev_M} {r : (Int32 × ev_M)} (h : W_X3_copy_122 n a0 i1 i2 i3 i4 i5 i6 M = some r)  {Q : Nat → Value → ev_M → Prop} (hq : Q 0 (.int r.1) r.2), XP ev_prog b_X3_copy_122 [.ref a0, .int i1, .int i2, .int i3, .int i4, .int i5, .int i6] [] M Q := by
  intro n
  induction n with
  | zero => intro a0 i1 i2 i3 i4 i5 i6 M r h; cases h
  | succ n ih => intro a0 i1 i2 i3 i4 i5 i6 M r h  Q hq; exact sF_X3_copy_122 (fun a0 i1 i2 i3 i4 i5 i6 M r h  Q hq => ih h hq) h hq
def F_X3_copy_119 (a0 : Nat) (i1 : Int32) (i2 : Int32) (i3 : Int32) (i4 : Int32) (i5 : Int32)  (M : ev_M) : Option (Int32 × ev_M) := W_X3_copy_122 5000 a0 i1 i2 i3 i4 i5 (iI (0)) M
theorem sF_X3_copy_119 {a0 : Nat} {i1 : Int32} {i2 : Int32} {i3 : Int32} {i4 : Int32} {i5 : Int32}  {z6 : Value} {M : ev_M} {Q : Nat → Value → ev_M → Prop} {r : (Int32 × ev_M)} (h : F_X3_copy_119 a0 i1 i2 i3 i4 i5  M = some r) (hq : Q 0 (.int r.1) r.2) : XP ev_prog b_X3_copy_119 [.ref a0, .int i1, .int i2, .int i3, .int i4, .int i5, z6] [] M Q := by
  unfold F_X3_copy_119 at h
  refine x_iconst.mpr ?_
  refine x_istore6.mpr ?_
  refine x_fall.mpr ?_
  rw [bk_X3_copy_122]
  exact sW_X3_copy_122 5000 h hq
def F_X3_copy_64 (a0 : Nat) (i1 : Int32) (i2 : Int32) (i3 : Int32) (i4 : Int32) (i5 : Int32)  (M : ev_M) : Option (Int32 × ev_M) := (if i2 < 0 then F_X3_copy_113 a0  M else (if i4 < 0 then F_X3_copy_113 a0  M else (if i5 < 0 then F_X3_copy_113 a0  M else (if ([2] : List Nat).contains (mK M a0) = true then (if ev_isI (mK M (mA M a0 1)) = true ∧ ev_in i1 (mN M (mA M a0 1)) = true then (if 0 < (lg_cmp ((i2).toInt64 + (i5).toInt64) ((mI M (mA M a0 1) (ev_ix i1))).toInt64) then F_X3_copy_113 a0  M else (if ([2] : List Nat).contains (mK M a0) = true then (if ev_isI (mK M (mA M a0 1)) = true ∧ ev_in i3 (mN M (mA M a0 1)) = true then (if (lg_cmp ((i4).toInt64 + (i5).toInt64) ((mI M (mA M a0 1) (ev_ix i3))).toInt64) ≤ 0 then F_X3_copy_119 a0 i1 i2 i3 i4 i5  M else F_X3_copy_113 a0  M) else none) else none)) else none) else none))))
theorem sF_X3_copy_64 {a0 : Nat} {i1 : Int32} {i2 : Int32} {i3 : Int32} {i4 : Int32} {i5 : Int32}  {z6 : Value} {M : ev_M} {Q : Nat → Value → ev_M → Prop} {r : (Int32 × ev_M)} (h : F_X3_copy_64 a0 i1 i2 i3 i4 i5  M = some r) (hq : Q 0 (.int r.1) r.2) : XP ev_prog b_X3_copy_64 [.ref a0, .int i1, .int i2, .int i3, .int i4, .int i5, z6] [] M Q := by
  unfold F_X3_copy_64 at h
  refine x_iloadn2.mpr ?_
  rcases ife h with ⟨hc, h⟩ | ⟨hc, h⟩
  · rw [x_if_lt, if_pos hc, bk_X3_copy_113]
    exact sF_X3_copy_113 h hq
  · rw [x_if_lt, if_neg hc]
    refine x_iload4.mpr ?_
    rcases ife h with ⟨hc, h⟩ | ⟨hc, h⟩
    · rw [x_if_lt, if_pos hc, bk_X3_copy_113]
      exact sF_X3_copy_113 h hq
    · rw [x_if_lt, if_neg hc]
      refine x_iload5.mpr ?_
      rcases ife h with ⟨hc, h⟩ | ⟨hc, h⟩
      · rw [x_if_lt, if_pos hc, bk_X3_copy_113]
        exact sF_X3_copy_113 h hq
      · rw [x_if_lt, if_neg hc]
        refine x_iloadn2.mpr ?_
        refine (x_i2l).mpr ?_
        refine x_iload5.mpr ?_
        refine (x_i2l).mpr ?_
        refine (x_ladd).mpr ?_
        refine x_aloadn0.mpr ?_
        obtain ⟨hc, h⟩ := gd h
        refine (x_getf4 hc).mpr ?_
        refine x_iloadn1.mpr ?_
        obtain ⟨hc, h⟩ := gd h
        refine (x_iaload hc.1 hc.2).mpr ?_
        refine (x_i2l).mpr ?_
        refine (x_lcmp).mpr ?_
        rcases ife h with ⟨hc, h⟩ | ⟨hc, h⟩
        · rw [x_if_gt, if_pos hc, bk_X3_copy_113]
          exact sF_X3_copy_113 h hq
        · rw [x_if_gt, if_neg hc]
          refine x_iload4.mpr ?_
          refine (x_i2l).mpr ?_
          refine x_iload5.mpr ?_
          refine (x_i2l).mpr ?_
          refine (x_ladd).mpr ?_
          refine x_aloadn0.mpr ?_
          obtain ⟨hc, h⟩ := gd h
          refine (x_getf4 hc).mpr ?_
          refine x_iloadn3.mpr ?_
          obtain ⟨hc, h⟩ := gd h
          refine (x_iaload hc.1 hc.2).mpr ?_
          refine (x_i2l).mpr ?_
          refine (x_lcmp).mpr ?_
          rcases ife h with ⟨hc, h⟩ | ⟨hc, h⟩
          · rw [x_if_le, if_pos hc, bk_X3_copy_119]
            exact sF_X3_copy_119 h hq
          · rw [x_if_le, if_neg hc]
            refine x_fall.mpr ?_
            rw [bk_X3_copy_113]
            exact sF_X3_copy_113 h hq
def F_X3_copy_43 (a0 : Nat) (i1 : Int32) (i2 : Int32) (i3 : Int32) (i4 : Int32) (i5 : Int32)  (M : ev_M) : Option (Int32 × ev_M) := (if ([2] : List Nat).contains (mK M a0) = true then (if ev_isI (mK M (mA M a0 0)) = true ∧ ev_in i1 (mN M (mA M a0 0)) = true then (if ([2] : List Nat).contains (mK M a0) = true then (if ev_isI (mK M (mA M a0 0)) = true ∧ ev_in i3 (mN M (mA M a0 0)) = true then (if (mI M (mA M a0 0) (ev_ix i1)) = (mI M (mA M a0 0) (ev_ix i3)) then F_X3_copy_64 a0 i1 i2 i3 i4 i5  M else (if ¬ a0 = 0 ∧ mK M a0 = 2 then (f_X3_meets a0 (iI (4)) M).bind fun r60_1 => some (r60_1.1, r60_1.2) else none)) else none) else none) else none) else none)
theorem sF_X3_copy_43 {a0 : Nat} {i1 : Int32} {i2 : Int32} {i3 : Int32} {i4 : Int32} {i5 : Int32}  {z6 : Value} {M : ev_M} {Q : Nat → Value → ev_M → Prop} {r : (Int32 × ev_M)} (h : F_X3_copy_43 a0 i1 i2 i3 i4 i5  M = some r) (hq : Q 0 (.int r.1) r.2) : XP ev_prog b_X3_copy_43 [.ref a0, .int i1, .int i2, .int i3, .int i4, .int i5, z6] [] M Q := by
  unfold F_X3_copy_43 at h
  refine x_aloadn0.mpr ?_
  obtain ⟨hc, h⟩ := gd h
  refine (x_getf4 hc).mpr ?_
  refine x_iloadn1.mpr ?_
  obtain ⟨hc, h⟩ := gd h
  refine (x_iaload hc.1 hc.2).mpr ?_
  refine x_aloadn0.mpr ?_
  obtain ⟨hc, h⟩ := gd h
  refine (x_getf4 hc).mpr ?_
  refine x_iloadn3.mpr ?_
  obtain ⟨hc, h⟩ := gd h
  refine (x_iaload hc.1 hc.2).mpr ?_
  rcases ife h with ⟨hc, h⟩ | ⟨hc, h⟩
  · rw [x_icmp_eq, if_pos hc, bk_X3_copy_64]
    exact sF_X3_copy_64 h hq
  · rw [x_icmp_eq, if_neg hc]
    refine x_aloadn0.mpr ?_
    refine x_iconst.mpr ?_
    obtain ⟨hc, h⟩ := gd h
    obtain ⟨r60_1, hz, h⟩ := Option.bind_eq_some_iff.mp h
    refine (y_virt2 ml_X3_meets (by show 2 ≤ 2; decide) hc.1 hc.2 rfl (by decide) (by show ¬ 8 < 0; decide)).mpr ?_
    refine sf_X3_meets hz ?_
    refine xk0.mpr ?_
    show XP ev_prog _ _ (.int r60_1.1 :: _) r60_1.2 Q
    cases h
    exact x_ireturn.mpr hq
def F_X3_copy_17 (a0 : Nat) (i1 : Int32) (i2 : Int32) (i3 : Int32) (i4 : Int32) (i5 : Int32)  (M : ev_M) : Option (Int32 × ev_M) := (if ([2] : List Nat).contains (mK M a0) = true then (if ev_isI (mK M (mA M a0 0)) = true ∧ ev_in i1 (mN M (mA M a0 0)) = true then (if (mI M (mA M a0 0) (ev_ix i1)) = (iI (-1)) then F_X3_copy_37 a0  M else (if ([2] : List Nat).contains (mK M a0) = true then (if ev_isI (mK M (mA M a0 0)) = true ∧ ev_in i3 (mN M (mA M a0 0)) = true then (if ¬ (mI M (mA M a0 0) (ev_ix i3)) = (iI (-1)) then F_X3_copy_43 a0 i1 i2 i3 i4 i5  M else F_X3_copy_37 a0  M) else none) else none)) else none) else none)
theorem sF_X3_copy_17 {a0 : Nat} {i1 : Int32} {i2 : Int32} {i3 : Int32} {i4 : Int32} {i5 : Int32}  {z6 : Value} {M : ev_M} {Q : Nat → Value → ev_M → Prop} {r : (Int32 × ev_M)} (h : F_X3_copy_17 a0 i1 i2 i3 i4 i5  M = some r) (hq : Q 0 (.int r.1) r.2) : XP ev_prog b_X3_copy_17 [.ref a0, .int i1, .int i2, .int i3, .int i4, .int i5, z6] [] M Q := by
  unfold F_X3_copy_17 at h
  refine x_aloadn0.mpr ?_
  obtain ⟨hc, h⟩ := gd h
  refine (x_getf4 hc).mpr ?_
  refine x_iloadn1.mpr ?_
  obtain ⟨hc, h⟩ := gd h
  refine (x_iaload hc.1 hc.2).mpr ?_
  refine x_iconst.mpr ?_
  rcases ife h with ⟨hc, h⟩ | ⟨hc, h⟩
  · rw [x_icmp_eq, if_pos hc, bk_X3_copy_37]
    exact sF_X3_copy_37 h hq
  · rw [x_icmp_eq, if_neg hc]
    refine x_aloadn0.mpr ?_
    obtain ⟨hc, h⟩ := gd h
    refine (x_getf4 hc).mpr ?_
    refine x_iloadn3.mpr ?_
    obtain ⟨hc, h⟩ := gd h
    refine (x_iaload hc.1 hc.2).mpr ?_
    refine x_iconst.mpr ?_
    rcases ife h with ⟨hc, h⟩ | ⟨hc, h⟩
    · rw [x_icmp_ne, if_pos hc, bk_X3_copy_43]
      exact sF_X3_copy_43 h hq
    · rw [x_icmp_ne, if_neg hc]
      refine x_fall.mpr ?_
      rw [bk_X3_copy_37]
      exact sF_X3_copy_37 h hq
def F_X3_copy_0 (a0 : Nat) (i1 : Int32) (i2 : Int32) (i3 : Int32) (i4 : Int32) (i5 : Int32)  (M : ev_M) : Option (Int32 × ev_M) := (f_X3_isRow i1 M).bind fun r1_1 => (if r1_1.1 = 0 then F_X3_copy_14   r1_1.2 else (f_X3_isRow i3 r1_1.2).bind fun r8_1 => (if ¬ r8_1.1 = 0 then F_X3_copy_17 a0 i1 i2 i3 i4 i5  r8_1.2 else F_X3_copy_14   r8_1.2))
theorem sF_X3_copy_0 {a0 : Nat} {i1 : Int32} {i2 : Int32} {i3 : Int32} {i4 : Int32} {i5 : Int32}  {z6 : Value} {M : ev_M} {Q : Nat → Value → ev_M → Prop} {r : (Int32 × ev_M)} (h : F_X3_copy_0 a0 i1 i2 i3 i4 i5  M = some r) (hq : Q 0 (.int r.1) r.2) : XP ev_prog b_X3_copy_0 [.ref a0, .int i1, .int i2, .int i3, .int i4, .int i5, z6] [] M Q := by
  unfold F_X3_copy_0 at h
  refine x_iloadn1.mpr ?_
  obtain ⟨r1_1, hz, h⟩ := Option.bind_eq_some_iff.mp h
  refine (y_stat1 ml_X3_isRow (by show 1 ≤ 1; decide) (by decide) (by decide) (by show ¬ 8 < 0; decide)).mpr ?_
  refine sf_X3_isRow hz ?_
  refine xk0.mpr ?_
  show XP ev_prog _ _ (.int r1_1.1 :: _) r1_1.2 Q
  rcases ife h with ⟨hc, h⟩ | ⟨hc, h⟩
  · rw [x_if_eq, if_pos hc, bk_X3_copy_14]
    exact sF_X3_copy_14 h hq
  · rw [x_if_eq, if_neg hc]
    refine x_iloadn3.mpr ?_
    obtain ⟨r8_1, hz, h⟩ := Option.bind_eq_some_iff.mp h
    refine (y_stat1 ml_X3_isRow (by show 1 ≤ 1; decide) (by decide) (by decide) (by show ¬ 8 < 0; decide)).mpr ?_
    refine sf_X3_isRow hz ?_
    refine xk0.mpr ?_
    show XP ev_prog _ _ (.int r8_1.1 :: _) r8_1.2 Q
    rcases ife h with ⟨hc, h⟩ | ⟨hc, h⟩
    · rw [x_if_ne, if_pos hc, bk_X3_copy_17]
      exact sF_X3_copy_17 h hq
    · rw [x_if_ne, if_neg hc]
      refine x_fall.mpr ?_
      rw [bk_X3_copy_14]
      exact sF_X3_copy_14 h hq
def f_X3_copy (a0 : Nat) (i1 : Int32) (i2 : Int32) (i3 : Int32) (i4 : Int32) (i5 : Int32) (M : ev_M) : Option (Int32 × ev_M) := F_X3_copy_0 a0 i1 i2 i3 i4 i5 M
theorem sf_X3_copy {a0 : Nat} {i1 : Int32} {i2 : Int32} {i3 : Int32} {i4 : Int32} {i5 : Int32} {M : ev_M} {Q : Nat → Value → ev_M → Prop} {r : (Int32 × ev_M)} (h : f_X3_copy a0 i1 i2 i3 i4 i5 M = some r) (hq : Q 0 (.int r.1) r.2) : CX ev_prog 71 [.ref a0, .int i1, .int i2, .int i3, .int i4, .int i5] M Q := by
  rw [cx_open (ls := [.ref a0, .int i1, .int i2, .int i3, .int i4, .int i5, jk]) bk_X3_copy_0 rfl ml_X3_copy rfl]
  exact sF_X3_copy_0 h hq
def F_X3_logs_53_p21   (M : ev_M) : Option ev_M := some M
theorem sF_X3_logs_53_p21   {z0 : Value} {z1 : Value} {z2 : Value} {z3 : Value} {z4 : Value} {z5 : Value} {z6 : Value} {M : ev_M} {Q : Nat → Value → ev_M → Prop} {r : ev_M} (h : F_X3_logs_53_p21   M = some r) (hq : Q 0 jk r) : XP ev_prog [((.return_, 1, []), [])] [z0, z1, z2, z3, z4, z5, z6] [] M Q := by
  unfold F_X3_logs_53_p21 at h
  cases h
  exact x_return.mpr hq
def F_X3_logs_53_p15 (a0 : Nat)  (M : ev_M) : Option ev_M := (if ([2] : List Nat).contains (mK M a0) = true then (if ([2] : List Nat).contains (mK M a0) = true then F_X3_logs_53_p21   (wI M a0 18 ((mI M a0 18) + (iI (1)))) else none) else none)
theorem sF_X3_logs_53_p15 {a0 : Nat}  {z1 : Value} {z2 : Value} {z3 : Value} {z4 : Value} {z5 : Value} {z6 : Value} {M : ev_M} {Q : Nat → Value → ev_M → Prop} {r : ev_M} (h : F_X3_logs_53_p15 a0  M = some r) (hq : Q 0 jk r) : XP ev_prog [((.aload_n 0, 1, []), []), ((.dup, 1, []), []), ((.getfield 151, 3, [0, 0, 18, 2]), []), ((.iconst 1, 1, []), []), ((.iadd, 1, []), []), ((.putfield 151, 3, [0, 0, 18, 2]), []), ((.return_, 1, []), [])] [.ref a0, z1, z2, z3, z4, z5, z6] [] M Q := by
  unfold F_X3_logs_53_p15 at h
  refine x_aloadn0.mpr ?_
  refine x_dup_ref.mpr ?_
  obtain ⟨hc, h⟩ := gd h
  refine (x_getf0 hc).mpr ?_
  refine x_iconst.mpr ?_
  refine (x_iadd).mpr ?_
  obtain ⟨hc, h⟩ := gd h
  refine (x_putf0 hc).mpr ?_
  exact sF_X3_logs_53_p21 h hq
def F_X3_logs_53_p10 (a0 : Nat) (i5 : Int32)  (M : ev_M) : Option ev_M := (if ([2] : List Nat).contains (mK M a0) = true then (if ([2] : List Nat).contains (mK M a0) = true then (if mK M (mA M a0 17) = 40 ∧ ev_in (((iI (6)) * (mI M a0 18)) + (iI (4))) (mN M (mA M a0 17)) = true then F_X3_logs_53_p15 a0  (wI M (mA M a0 17) (ev_ix (((iI (6)) * (mI M a0 18)) + (iI (4)))) i5) else none) else none) else none)
theorem sF_X3_logs_53_p10 {a0 : Nat} {i5 : Int32}  {z1 : Value} {z2 : Value} {z3 : Value} {z4 : Value} {z6 : Value} {M : ev_M} {Q : Nat → Value → ev_M → Prop} {r : ev_M} (h : F_X3_logs_53_p10 a0 i5  M = some r) (hq : Q 0 jk r) : XP ev_prog [((.aload_n 0, 1, []), []), ((.getfield 53, 3, [0, 4, 17, 2]), []), ((.bipush 6, 2, []), []), ((.aload_n 0, 1, []), []), ((.getfield 151, 3, [0, 0, 18, 2]), []), ((.imul, 1, []), []), ((.iconst 4, 1, []), []), ((.iadd, 1, []), []), ((.iload 5, 2, []), []), ((.iastore, 1, []), []), ((.aload_n 0, 1, []), []), ((.dup, 1, []), []), ((.getfield 151, 3, [0, 0, 18, 2]), []), ((.iconst 1, 1, []), []), ((.iadd, 1, []), []), ((.putfield 151, 3, [0, 0, 18, 2]), []), ((.return_, 1, []), [])] [.ref a0, z1, z2, z3, z4, .int i5, z6] [] M Q := by
  unfold F_X3_logs_53_p10 at h
  refine x_aloadn0.mpr ?_
  obtain ⟨hc, h⟩ := gd h
  refine (x_getf4 hc).mpr ?_
  refine (x_bipush (by decide)).mpr ?_
  refine x_aloadn0.mpr ?_
  obtain ⟨hc, h⟩ := gd h
  refine (x_getf0 hc).mpr ?_
  refine (x_imul).mpr ?_
  refine x_iconst.mpr ?_
  refine (x_iadd).mpr ?_
  refine x_iload5.mpr ?_
  obtain ⟨hc, h⟩ := gd h
  refine (x_iastore hc.1 hc.2).mpr ?_
  exact sF_X3_logs_53_p15 h hq
def F_X3_logs_53_p6 (a0 : Nat) (i4 : Int32) (i5 : Int32)  (M : ev_M) : Option ev_M := (if ([2] : List Nat).contains (mK M a0) = true then (if ([2] : List Nat).contains (mK M a0) = true then (if mK M (mA M a0 17) = 40 ∧ ev_in (((iI (6)) * (mI M a0 18)) + (iI (3))) (mN M (mA M a0 17)) = true then F_X3_logs_53_p10 a0 i5  (wI M (mA M a0 17) (ev_ix (((iI (6)) * (mI M a0 18)) + (iI (3)))) i4) else none) else none) else none)
theorem sF_X3_logs_53_p6 {a0 : Nat} {i4 : Int32} {i5 : Int32}  {z1 : Value} {z2 : Value} {z3 : Value} {z6 : Value} {M : ev_M} {Q : Nat → Value → ev_M → Prop} {r : ev_M} (h : F_X3_logs_53_p6 a0 i4 i5  M = some r) (hq : Q 0 jk r) : XP ev_prog [((.aload_n 0, 1, []), []), ((.getfield 53, 3, [0, 4, 17, 2]), []), ((.bipush 6, 2, []), []), ((.aload_n 0, 1, []), []), ((.getfield 151, 3, [0, 0, 18, 2]), []), ((.imul, 1, []), []), ((.iconst 3, 1, []), []), ((.iadd, 1, []), []), ((.iload 4, 2, []), []), ((.iastore, 1, []), []), ((.aload_n 0, 1, []), []), ((.getfield 53, 3, [0, 4, 17, 2]), []), ((.bipush 6, 2, []), []), ((.aload_n 0, 1, []), []), ((.getfield 151, 3, [0, 0, 18, 2]), []), ((.imul, 1, []), []), ((.iconst 4, 1, []), []), ((.iadd, 1, []), []), ((.iload 5, 2, []), []), ((.iastore, 1, []), []), ((.aload_n 0, 1, []), []), ((.dup, 1, []), []), ((.getfield 151, 3, [0, 0, 18, 2]), []), ((.iconst 1, 1, []), []), ((.iadd, 1, []), []), ((.putfield 151, 3, [0, 0, 18, 2]), []), ((.return_, 1, []), [])] [.ref a0, z1, z2, z3, .int i4, .int i5, z6] [] M Q := by
  unfold F_X3_logs_53_p6 at h
  refine x_aloadn0.mpr ?_
  obtain ⟨hc, h⟩ := gd h
  refine (x_getf4 hc).mpr ?_
  refine (x_bipush (by decide)).mpr ?_
  refine x_aloadn0.mpr ?_
  obtain ⟨hc, h⟩ := gd h
  refine (x_getf0 hc).mpr ?_
  refine (x_imul).mpr ?_
  refine x_iconst.mpr ?_
  refine (x_iadd).mpr ?_
  refine x_iload4.mpr ?_
  obtain ⟨hc, h⟩ := gd h
  refine (x_iastore hc.1 hc.2).mpr ?_
  exact sF_X3_logs_53_p10 h hq
def F_X3_logs_53_p3 (a0 : Nat) (i3 : Int32) (i4 : Int32) (i5 : Int32)  (M : ev_M) : Option ev_M := (if ([2] : List Nat).contains (mK M a0) = true then (if ([2] : List Nat).contains (mK M a0) = true then (if mK M (mA M a0 17) = 40 ∧ ev_in (((iI (6)) * (mI M a0 18)) + (iI (2))) (mN M (mA M a0 17)) = true then F_X3_logs_53_p6 a0 i4 i5  (wI M (mA M a0 17) (ev_ix (((iI (6)) * (mI M a0 18)) + (iI (2)))) i3) else none) else none) else none)
theorem sF_X3_logs_53_p3 {a0 : Nat} {i3 : Int32} {i4 : Int32} {i5 : Int32}  {z1 : Value} {z2 : Value} {z6 : Value} {M : ev_M} {Q : Nat → Value → ev_M → Prop} {r : ev_M} (h : F_X3_logs_53_p3 a0 i3 i4 i5  M = some r) (hq : Q 0 jk r) : XP ev_prog [((.aload_n 0, 1, []), []), ((.getfield 53, 3, [0, 4, 17, 2]), []), ((.bipush 6, 2, []), []), ((.aload_n 0, 1, []), []), ((.getfield 151, 3, [0, 0, 18, 2]), []), ((.imul, 1, []), []), ((.iconst 2, 1, []), []), ((.iadd, 1, []), []), ((.iload_n 3, 1, []), []), ((.iastore, 1, []), []), ((.aload_n 0, 1, []), []), ((.getfield 53, 3, [0, 4, 17, 2]), []), ((.bipush 6, 2, []), []), ((.aload_n 0, 1, []), []), ((.getfield 151, 3, [0, 0, 18, 2]), []), ((.imul, 1, []), []), ((.iconst 3, 1, []), []), ((.iadd, 1, []), []), ((.iload 4, 2, []), []), ((.iastore, 1, []), []), ((.aload_n 0, 1, []), []), ((.getfield 53, 3, [0, 4, 17, 2]), []), ((.bipush 6, 2, []), []), ((.aload_n 0, 1, []), []), ((.getfield 151, 3, [0, 0, 18, 2]), []), ((.imul, 1, []), []), ((.iconst 4, 1, []), []), ((.iadd, 1, []), []), ((.iload 5, 2, []), []), ((.iastore, 1, []), []), ((.aload_n 0, 1, []), []), ((.dup, 1, []), []), ((.getfield 151, 3, [0, 0, 18, 2]), []), ((.iconst 1, 1, []), []), ((.iadd, 1, []), []), ((.putfield 151, 3, [0, 0, 18, 2]), []), ((.return_, 1, []), [])] [.ref a0, z1, z2, .int i3, .int i4, .int i5, z6] [] M Q := by
  unfold F_X3_logs_53_p3 at h
  refine x_aloadn0.mpr ?_
  obtain ⟨hc, h⟩ := gd h
  refine (x_getf4 hc).mpr ?_
  refine (x_bipush (by decide)).mpr ?_
  refine x_aloadn0.mpr ?_
  obtain ⟨hc, h⟩ := gd h
  refine (x_getf0 hc).mpr ?_
  refine (x_imul).mpr ?_
  refine x_iconst.mpr ?_
  refine (x_iadd).mpr ?_
  refine x_iloadn3.mpr ?_
  obtain ⟨hc, h⟩ := gd h
  refine (x_iastore hc.1 hc.2).mpr ?_
  exact sF_X3_logs_53_p6 h hq
def F_X3_logs_53_p1 (a0 : Nat) (i2 : Int32) (i3 : Int32) (i4 : Int32) (i5 : Int32)  (M : ev_M) : Option ev_M := (if ([2] : List Nat).contains (mK M a0) = true then (if ([2] : List Nat).contains (mK M a0) = true then (if mK M (mA M a0 17) = 40 ∧ ev_in (((iI (6)) * (mI M a0 18)) + (iI (1))) (mN M (mA M a0 17)) = true then F_X3_logs_53_p3 a0 i3 i4 i5  (wI M (mA M a0 17) (ev_ix (((iI (6)) * (mI M a0 18)) + (iI (1)))) i2) else none) else none) else none)
theorem sF_X3_logs_53_p1 {a0 : Nat} {i2 : Int32} {i3 : Int32} {i4 : Int32} {i5 : Int32}  {z1 : Value} {z6 : Value} {M : ev_M} {Q : Nat → Value → ev_M → Prop} {r : ev_M} (h : F_X3_logs_53_p1 a0 i2 i3 i4 i5  M = some r) (hq : Q 0 jk r) : XP ev_prog [((.aload_n 0, 1, []), []), ((.getfield 53, 3, [0, 4, 17, 2]), []), ((.bipush 6, 2, []), []), ((.aload_n 0, 1, []), []), ((.getfield 151, 3, [0, 0, 18, 2]), []), ((.imul, 1, []), []), ((.iconst 1, 1, []), []), ((.iadd, 1, []), []), ((.iload_n 2, 1, []), []), ((.iastore, 1, []), []), ((.aload_n 0, 1, []), []), ((.getfield 53, 3, [0, 4, 17, 2]), []), ((.bipush 6, 2, []), []), ((.aload_n 0, 1, []), []), ((.getfield 151, 3, [0, 0, 18, 2]), []), ((.imul, 1, []), []), ((.iconst 2, 1, []), []), ((.iadd, 1, []), []), ((.iload_n 3, 1, []), []), ((.iastore, 1, []), []), ((.aload_n 0, 1, []), []), ((.getfield 53, 3, [0, 4, 17, 2]), []), ((.bipush 6, 2, []), []), ((.aload_n 0, 1, []), []), ((.getfield 151, 3, [0, 0, 18, 2]), []), ((.imul, 1, []), []), ((.iconst 3, 1, []), []), ((.iadd, 1, []), []), ((.iload 4, 2, []), []), ((.iastore, 1, []), []), ((.aload_n 0, 1, []), []), ((.getfield 53, 3, [0, 4, 17, 2]), []), ((.bipush 6, 2, []), []), ((.aload_n 0, 1, []), []), ((.getfield 151, 3, [0, 0, 18, 2]), []), ((.imul, 1, []), []), ((.iconst 4, 1, []), []), ((.iadd, 1, []), []), ((.iload 5, 2, []), []), ((.iastore, 1, []), []), ((.aload_n 0, 1, []), []), ((.dup, 1, []), []), ((.getfield 151, 3, [0, 0, 18, 2]), []), ((.iconst 1, 1, []), []), ((.iadd, 1, []), []), ((.putfield 151, 3, [0, 0, 18, 2]), []), ((.return_, 1, []), [])] [.ref a0, z1, .int i2, .int i3, .int i4, .int i5, z6] [] M Q := by
  unfold F_X3_logs_53_p1 at h
  refine x_aloadn0.mpr ?_
  obtain ⟨hc, h⟩ := gd h
  refine (x_getf4 hc).mpr ?_
  refine (x_bipush (by decide)).mpr ?_
  refine x_aloadn0.mpr ?_
  obtain ⟨hc, h⟩ := gd h
  refine (x_getf0 hc).mpr ?_
  refine (x_imul).mpr ?_
  refine x_iconst.mpr ?_
  refine (x_iadd).mpr ?_
  refine x_iloadn2.mpr ?_
  obtain ⟨hc, h⟩ := gd h
  refine (x_iastore hc.1 hc.2).mpr ?_
  exact sF_X3_logs_53_p3 h hq
def F_X3_logs_53 (a0 : Nat) (i1 : Int32) (i2 : Int32) (i3 : Int32) (i4 : Int32) (i5 : Int32)  (M : ev_M) : Option ev_M := (if ([2] : List Nat).contains (mK M a0) = true then (if ([2] : List Nat).contains (mK M a0) = true then (if mK M (mA M a0 17) = 40 ∧ ev_in ((iI (6)) * (mI M a0 18)) (mN M (mA M a0 17)) = true then F_X3_logs_53_p1 a0 i2 i3 i4 i5  (wI M (mA M a0 17) (ev_ix ((iI (6)) * (mI M a0 18))) i1) else none) else none) else none)
theorem sF_X3_logs_53 {a0 : Nat} {i1 : Int32} {i2 : Int32} {i3 : Int32} {i4 : Int32} {i5 : Int32}  {z6 : Value} {M : ev_M} {Q : Nat → Value → ev_M → Prop} {r : ev_M} (h : F_X3_logs_53 a0 i1 i2 i3 i4 i5  M = some r) (hq : Q 0 jk r) : XP ev_prog b_X3_logs_53 [.ref a0, .int i1, .int i2, .int i3, .int i4, .int i5, z6] [] M Q := by
  unfold F_X3_logs_53 at h
  refine x_kill.mpr ?_
  show XP ev_prog _ [.ref a0, .int i1, .int i2, .int i3, .int i4, .int i5, jk] [] M Q
  refine x_aloadn0.mpr ?_
  obtain ⟨hc, h⟩ := gd h
  refine (x_getf4 hc).mpr ?_
  refine (x_bipush (by decide)).mpr ?_
  refine x_aloadn0.mpr ?_
  obtain ⟨hc, h⟩ := gd h
  refine (x_getf0 hc).mpr ?_
  refine (x_imul).mpr ?_
  refine x_iloadn1.mpr ?_
  obtain ⟨hc, h⟩ := gd h
  refine (x_iastore hc.1 hc.2).mpr ?_
  exact sF_X3_logs_53_p1 h hq
def F_X3_logs_43_p1 (a0 : Nat) (i1 : Int32) (i2 : Int32) (i3 : Int32) (i4 : Int32) (i5 : Int32)  (M : ev_M) : Option ev_M := F_X3_logs_53 a0 i1 i2 i3 i4 i5  M
theorem sF_X3_logs_43_p1 {a0 : Nat} {i1 : Int32} {i2 : Int32} {i3 : Int32} {i4 : Int32} {i5 : Int32}  {z6 : Value} {M : ev_M} {Q : Nat → Value → ev_M → Prop} {r : ev_M} (h : F_X3_logs_43_p1 a0 i1 i2 i3 i4 i5  M = some r) (hq : Q 0 jk r) : XP ev_prog [((.nop, 0, [0, 352309]), [])] [.ref a0, .int i1, .int i2, .int i3, .int i4, .int i5, z6] [] M Q := by
  unfold F_X3_logs_43_p1 at h
  refine x_fall.mpr ?_
  rw [bk_X3_logs_53]
  exact sF_X3_logs_53 h hq
def F_X3_logs_43 (a0 : Nat) (i1 : Int32) (i2 : Int32) (i3 : Int32) (i4 : Int32) (i5 : Int32)  (M : ev_M) : Option ev_M := (if ([2] : List Nat).contains (mK M a0) = true then (if ([2] : List Nat).contains (mK M a0) = true then F_X3_logs_43_p1 a0 i1 i2 i3 i4 i5  (wI M a0 18 ((mI M a0 18) - (iI (1)))) else none) else none)
theorem sF_X3_logs_43 {a0 : Nat} {i1 : Int32} {i2 : Int32} {i3 : Int32} {i4 : Int32} {i5 : Int32}  {z6 : Value} {M : ev_M} {Q : Nat → Value → ev_M → Prop} {r : ev_M} (h : F_X3_logs_43 a0 i1 i2 i3 i4 i5  M = some r) (hq : Q 0 jk r) : XP ev_prog b_X3_logs_43 [.ref a0, .int i1, .int i2, .int i3, .int i4, .int i5, z6] [] M Q := by
  unfold F_X3_logs_43 at h
  refine x_aloadn0.mpr ?_
  refine x_dup_ref.mpr ?_
  obtain ⟨hc, h⟩ := gd h
  refine (x_getf0 hc).mpr ?_
  refine x_iconst.mpr ?_
  refine (x_isub).mpr ?_
  obtain ⟨hc, h⟩ := gd h
  refine (x_putf0 hc).mpr ?_
  exact sF_X3_logs_43_p1 h hq
def F_X3_logs_13_p1 (k13 : Nat → Int32 → Int32 → Int32 → Int32 → Int32 → Int32 → ev_M → Option ev_M) (a0 : Nat) (i1 : Int32) (i2 : Int32) (i3 : Int32) (i4 : Int32) (i5 : Int32) (i6 : Int32)  (M : ev_M) : Option ev_M := k13 a0 i1 i2 i3 i4 i5 (i6 + iI (1)) M
theorem sF_X3_logs_13_p1 {k13 : Nat → Int32 → Int32 → Int32 → Int32 → Int32 → Int32 → ev_M → Option ev_M} (hk13 : ∀ (a0 : Nat) (i1 : Int32) (i2 : Int32) (i3 : Int32) (i4 : Int32) (i5 : Int32) (i6 : Int32) (M : ev_M) (r : ev_M), k13 a0 i1 i2 i3 i4 i5 i6 M = some r → ∀ (Q : Nat → Value → ev_M → Prop), Q 0 jk r → XP ev_prog b_X3_logs_13 [.ref a0, .int i1, .int i2, .int i3, .int i4, .int i5, .int i6] [] M Q){a0 : Nat} {i1 : Int32} {i2 : Int32} {i3 : Int32} {i4 : Int32} {i5 : Int32} {i6 : Int32}   {M : ev_M} {Q : Nat → Value → ev_M → Prop} {r : ev_M} (h : F_X3_logs_13_p1 k13 a0 i1 i2 i3 i4 i5 i6  M = some r) (hq : Q 0 jk r) : XP ev_prog [((.iinc 6 1, 3, []), []), ((.goto (-27), 3, [352269]), [])] [.ref a0, .int i1, .int i2, .int i3, .int i4, .int i5, .int i6] [] M Q := by
  unfold F_X3_logs_13_p1 at h
  refine x_iinc6.mpr ?_
  refine x_goto.mpr ?_
  rw [bk_X3_logs_13]
  exact hk13 _ _ _ _ _ _ _ _ _ _ h _ hq
def F_X3_logs_13 (k13 : Nat → Int32 → Int32 → Int32 → Int32 → Int32 → Int32 → ev_M → Option ev_M) (a0 : Nat) (i1 : Int32) (i2 : Int32) (i3 : Int32) (i4 : Int32) (i5 : Int32) (i6 : Int32)  (M : ev_M) : Option ev_M := (if (iI (120)) ≤ i6 then F_X3_logs_43 a0 i1 i2 i3 i4 i5  M else (if ([2] : List Nat).contains (mK M a0) = true then (if ([2] : List Nat).contains (mK M a0) = true then (if ev_isI (mK M (mA M a0 17)) = true ∧ ev_in i6 (mN M (mA M a0 17)) = true then (if mK M (mA M a0 17) = 40 ∧ ev_in (i6 - (iI (6))) (mN M (mA M a0 17)) = true then F_X3_logs_13_p1 k13 a0 i1 i2 i3 i4 i5 i6  (wI M (mA M a0 17) (ev_ix (i6 - (iI (6)))) (mI M (mA M a0 17) (ev_ix i6))) else none) else none) else none) else none))
theorem sF_X3_logs_13 {k13 : Nat → Int32 → Int32 → Int32 → Int32 → Int32 → Int32 → ev_M → Option ev_M} (hk13 : ∀ (a0 : Nat) (i1 : Int32) (i2 : Int32) (i3 : Int32) (i4 : Int32) (i5 : Int32) (i6 : Int32) (M : ev_M) (r : ev_M), k13 a0 i1 i2 i3 i4 i5 i6 M = some r → ∀ (Q : Nat → Value → ev_M → Prop), Q 0 jk r → XP ev_prog b_X3_logs_13 [.ref a0, .int i1, .int i2, .int i3, .int i4, .int i5, .int i6] [] M Q){a0 : Nat} {i1 : Int32} {i2 : Int32} {i3 : Int32} {i4 : Int32} {i5 : Int32} {i6 : Int32}   {M : ev_M} {Q : Nat → Value → ev_M → Prop} {r : ev_M} (h : F_X3_logs_13 k13 a0 i1 i2 i3 i4 i5 i6  M = some r) (hq : Q 0 jk r) : XP ev_prog b_X3_logs_13 [.ref a0, .int i1, .int i2, .int i3, .int i4, .int i5, .int i6] [] M Q := by
  unfold F_X3_logs_13 at h
  refine x_iload6.mpr ?_
  refine (x_bipush (by decide)).mpr ?_
  rcases ife h with ⟨hc, h⟩ | ⟨hc, h⟩
  · rw [x_icmp_ge, if_pos hc, bk_X3_logs_43]
    exact sF_X3_logs_43 h hq
  · rw [x_icmp_ge, if_neg hc]
    refine x_aloadn0.mpr ?_
    obtain ⟨hc, h⟩ := gd h
    refine (x_getf4 hc).mpr ?_
    refine x_iload6.mpr ?_
    refine (x_bipush (by decide)).mpr ?_
    refine (x_isub).mpr ?_
    refine x_aloadn0.mpr ?_
    obtain ⟨hc, h⟩ := gd h
    refine (x_getf4 hc).mpr ?_
    refine x_iload6.mpr ?_
    obtain ⟨hc, h⟩ := gd h
    refine (x_iaload hc.1 hc.2).mpr ?_
    obtain ⟨hc, h⟩ := gd h
    refine (x_iastore hc.1 hc.2).mpr ?_
    exact sF_X3_logs_13_p1 hk13 h hq
def W_X3_logs_13 : Nat → Nat → Int32 → Int32 → Int32 → Int32 → Int32 → Int32 → ev_M → Option ev_M
  | 0 => fun _ => fun _ => fun _ => fun _ => fun _ => fun _ => fun _ => fun _ => none
  | n + 1 => fun a0 i1 i2 i3 i4 i5 i6 M => F_X3_logs_13 (W_X3_logs_13 n) a0 i1 i2 i3 i4 i5 i6 M
theorem sW_X3_logs_13  : ∀ (n : Nat) {a0 : Nat} {i1 : Int32} {i2 : Int32} {i3 : Int32} {i4 : Int32} {i5 : Int32} {i6 : Int32} {M : ev_M} {r : ev_M} (h : W_X3_logs_13 n a0 i1 i2 i3 i4 i5 i6 M = some r)  {Q : Nat → Value → ev_M → Prop} (hq : Q 0 jk r), XP ev_prog b_X3_logs_13 [.ref a0, .int i1, .int i2, .int i3, .int i4, .int i5, .int i6] [] M Q := by
  intro n
  induction n with
  | zero => intro a0 i1 i2 i3 i4 i5 i6 M r h; cases h
  | succ n ih => intro a0 i1 i2 i3 i4 i5 i6 M r h  Q hq; exact sF_X3_logs_13 (fun a0 i1 i2 i3 i4 i5 i6 M r h  Q hq => ih h hq) h hq
def F_X3_logs_0 (a0 : Nat) (i1 : Int32) (i2 : Int32) (i3 : Int32) (i4 : Int32) (i5 : Int32)  (M : ev_M) : Option ev_M := (if ([2] : List Nat).contains (mK M a0) = true then (if ¬ (mI M a0 18) = (iI (20)) then F_X3_logs_53 a0 i1 i2 i3 i4 i5  M else W_X3_logs_13 5000 a0 i1 i2 i3 i4 i5 (iI (6)) M) else none)
theorem sF_X3_logs_0 {a0 : Nat} {i1 : Int32} {i2 : Int32} {i3 : Int32} {i4 : Int32} {i5 : Int32}  {z6 : Value} {M : ev_M} {Q : Nat → Value → ev_M → Prop} {r : ev_M} (h : F_X3_logs_0 a0 i1 i2 i3 i4 i5  M = some r) (hq : Q 0 jk r) : XP ev_prog b_X3_logs_0 [.ref a0, .int i1, .int i2, .int i3, .int i4, .int i5, z6] [] M Q := by
  unfold F_X3_logs_0 at h
  refine x_aloadn0.mpr ?_
  obtain ⟨hc, h⟩ := gd h
  refine (x_getf0 hc).mpr ?_
  refine (x_bipush (by decide)).mpr ?_
  rcases ife h with ⟨hc, h⟩ | ⟨hc, h⟩
  · rw [x_icmp_ne, if_pos hc, bk_X3_logs_53]
    exact sF_X3_logs_53 h hq
  · rw [x_icmp_ne, if_neg hc]
    refine (x_bipush (by decide)).mpr ?_
    refine x_istore6.mpr ?_
    refine x_fall.mpr ?_
    rw [bk_X3_logs_13]
    exact sW_X3_logs_13 5000 h hq
def f_X3_logs (a0 : Nat) (i1 : Int32) (i2 : Int32) (i3 : Int32) (i4 : Int32) (i5 : Int32) (M : ev_M) : Option ev_M := F_X3_logs_0 a0 i1 i2 i3 i4 i5 M
theorem sf_X3_logs {a0 : Nat} {i1 : Int32} {i2 : Int32} {i3 : Int32} {i4 : Int32} {i5 : Int32} {M : ev_M} {Q : Nat → Value → ev_M → Prop} {r : ev_M} (h : f_X3_logs a0 i1 i2 i3 i4 i5 M = some r) (hq : Q 0 jk r) : CX ev_prog 86 [.ref a0, .int i1, .int i2, .int i3, .int i4, .int i5] M Q := by
  rw [cx_open (ls := [.ref a0, .int i1, .int i2, .int i3, .int i4, .int i5, jk]) bk_X3_logs_0 rfl ml_X3_logs rfl]
  exact sF_X3_logs_0 h hq
def F_X3_turns_13_p1 (i2 : Int32)  (M : ev_M) : Option (Int32 × ev_M) := some (i2, M)
theorem sF_X3_turns_13_p1 {i2 : Int32}  {z0 : Value} {z1 : Value} {M : ev_M} {Q : Nat → Value → ev_M → Prop} {r : (Int32 × ev_M)} (h : F_X3_turns_13_p1 i2  M = some r) (hq : Q 0 (.int r.1) r.2) : XP ev_prog [((.iload_n 2, 1, []), []), ((.ireturn, 1, []), [])] [z0, z1, .int i2] [] M Q := by
  unfold F_X3_turns_13_p1 at h
  refine x_iloadn2.mpr ?_
  cases h
  exact x_ireturn.mpr hq
def F_X3_turns_13 (a0 : Nat) (i1 : Int32)  (M : ev_M) : Option (Int32 × ev_M) := (if ([2] : List Nat).contains (mK M a0) = true then (if ([2] : List Nat).contains (mK M a0) = true then (if ¬ a0 = 0 ∧ mK M a0 = 2 then (f_X3_logs a0 (iI (0)) (iI (0)) (mI M a0 6) (iI (0)) (iI (0)) M).bind fun r27_1 => (if ([2] : List Nat).contains (mK r27_1 a0) = true then F_X3_turns_13_p1 (mI M a0 6)  (wI r27_1 a0 6 i1) else none) else none) else none) else none)
theorem sF_X3_turns_13 {a0 : Nat} {i1 : Int32}  {z2 : Value} {M : ev_M} {Q : Nat → Value → ev_M → Prop} {r : (Int32 × ev_M)} (h : F_X3_turns_13 a0 i1  M = some r) (hq : Q 0 (.int r.1) r.2) : XP ev_prog b_X3_turns_13 [.ref a0, .int i1, z2] [] M Q := by
  unfold F_X3_turns_13 at h
  refine x_aloadn0.mpr ?_
  obtain ⟨hc, h⟩ := gd h
  refine (x_getf0 hc).mpr ?_
  refine x_istoren2.mpr ?_
  refine x_aloadn0.mpr ?_
  refine x_iconst.mpr ?_
  refine x_iconst.mpr ?_
  refine x_aloadn0.mpr ?_
  obtain ⟨hc, h⟩ := gd h
  refine (x_getf0 hc).mpr ?_
  refine x_iconst.mpr ?_
  refine x_iconst.mpr ?_
  obtain ⟨hc, h⟩ := gd h
  obtain ⟨r27_1, hz, h⟩ := Option.bind_eq_some_iff.mp h
  refine (y_virt6 ml_X3_logs (by show 6 ≤ 7; decide) hc.1 hc.2 rfl (by decide) (by show ¬ 8 < 0; decide)).mpr ?_
  refine sf_X3_logs hz ?_
  refine xk0.mpr ?_
  show XP ev_prog _ _ _ r27_1 Q
  refine x_aloadn0.mpr ?_
  refine x_iloadn1.mpr ?_
  obtain ⟨hc, h⟩ := gd h
  refine (x_putf0 hc).mpr ?_
  exact sF_X3_turns_13_p1 h hq
def F_X3_turns_0 (a0 : Nat) (i1 : Int32)  (M : ev_M) : Option (Int32 × ev_M) := (f_X3_in i1 (iI (0)) (iI (10)) M).bind fun r4_1 => (if ¬ r4_1.1 = 0 then F_X3_turns_13 a0 i1  r4_1.2 else some ((iI (-2)), r4_1.2))
theorem sF_X3_turns_0 {a0 : Nat} {i1 : Int32}  {z2 : Value} {M : ev_M} {Q : Nat → Value → ev_M → Prop} {r : (Int32 × ev_M)} (h : F_X3_turns_0 a0 i1  M = some r) (hq : Q 0 (.int r.1) r.2) : XP ev_prog b_X3_turns_0 [.ref a0, .int i1, z2] [] M Q := by
  unfold F_X3_turns_0 at h
  refine x_iloadn1.mpr ?_
  refine x_iconst.mpr ?_
  refine (x_bipush (by decide)).mpr ?_
  obtain ⟨r4_1, hz, h⟩ := Option.bind_eq_some_iff.mp h
  refine (y_stat3 ml_X3_in (by show 3 ≤ 3; decide) (by decide) (by decide) (by show ¬ 8 < 0; decide)).mpr ?_
  refine sf_X3_in hz ?_
  refine xk0.mpr ?_
  show XP ev_prog _ _ (.int r4_1.1 :: _) r4_1.2 Q
  rcases ife h with ⟨hc, h⟩ | ⟨hc, h⟩
  · rw [x_if_ne, if_pos hc, bk_X3_turns_13]
    exact sF_X3_turns_13 h hq
  · rw [x_if_ne, if_neg hc]
    refine (x_bipush (by decide)).mpr ?_
    cases h
    exact x_ireturn.mpr hq
def f_X3_turns (a0 : Nat) (i1 : Int32) (M : ev_M) : Option (Int32 × ev_M) := F_X3_turns_0 a0 i1 M
theorem sf_X3_turns {a0 : Nat} {i1 : Int32} {M : ev_M} {Q : Nat → Value → ev_M → Prop} {r : (Int32 × ev_M)} (h : f_X3_turns a0 i1 M = some r) (hq : Q 0 (.int r.1) r.2) : CX ev_prog 87 [.ref a0, .int i1] M Q := by
  rw [cx_open (ls := [.ref a0, .int i1, jk]) bk_X3_turns_0 rfl ml_X3_turns rfl]
  exact sF_X3_turns_0 h hq
def F_X3_type_25_p3 (a0 : Nat)  (M : ev_M) : Option (Int32 × ev_M) := (if ([2] : List Nat).contains (mK M a0) = true then some ((mI M a0 20), M) else none)
theorem sF_X3_type_25_p3 {a0 : Nat}  {z1 : Value} {M : ev_M} {Q : Nat → Value → ev_M → Prop} {r : (Int32 × ev_M)} (h : F_X3_type_25_p3 a0  M = some r) (hq : Q 0 (.int r.1) r.2) : XP ev_prog [((.aload_n 0, 1, []), []), ((.getfield 161, 3, [0, 0, 20, 2]), []), ((.ireturn, 1, []), [])] [.ref a0, z1] [] M Q := by
  unfold F_X3_type_25_p3 at h
  refine x_aloadn0.mpr ?_
  obtain ⟨hc, h⟩ := gd h
  refine (x_getf0 hc).mpr ?_
  cases h
  exact x_ireturn.mpr hq
def F_X3_type_25_p1 (a0 : Nat)  (M : ev_M) : Option (Int32 × ev_M) := (if ([2] : List Nat).contains (mK M a0) = true then (if ([2] : List Nat).contains (mK M a0) = true then F_X3_type_25_p3 a0  (wI M a0 20 ((mI M a0 20) + (iI (1)))) else none) else none)
theorem sF_X3_type_25_p1 {a0 : Nat}  {z1 : Value} {M : ev_M} {Q : Nat → Value → ev_M → Prop} {r : (Int32 × ev_M)} (h : F_X3_type_25_p1 a0  M = some r) (hq : Q 0 (.int r.1) r.2) : XP ev_prog [((.aload_n 0, 1, []), []), ((.dup, 1, []), []), ((.getfield 161, 3, [0, 0, 20, 2]), []), ((.iconst 1, 1, []), []), ((.iadd, 1, []), []), ((.putfield 161, 3, [0, 0, 20, 2]), []), ((.aload_n 0, 1, []), []), ((.getfield 161, 3, [0, 0, 20, 2]), []), ((.ireturn, 1, []), [])] [.ref a0, z1] [] M Q := by
  unfold F_X3_type_25_p1 at h
  refine x_aloadn0.mpr ?_
  refine x_dup_ref.mpr ?_
  obtain ⟨hc, h⟩ := gd h
  refine (x_getf0 hc).mpr ?_
  refine x_iconst.mpr ?_
  refine (x_iadd).mpr ?_
  obtain ⟨hc, h⟩ := gd h
  refine (x_putf0 hc).mpr ?_
  exact sF_X3_type_25_p3 h hq
def F_X3_type_25 (a0 : Nat) (i1 : Int32)  (M : ev_M) : Option (Int32 × ev_M) := (if ([2] : List Nat).contains (mK M a0) = true then (if ([2] : List Nat).contains (mK M a0) = true then (if mK M (mA M a0 19) = 40 ∧ ev_in (mI M a0 20) (mN M (mA M a0 19)) = true then F_X3_type_25_p1 a0  (wI M (mA M a0 19) (ev_ix (mI M a0 20)) i1) else none) else none) else none)
theorem sF_X3_type_25 {a0 : Nat} {i1 : Int32}   {M : ev_M} {Q : Nat → Value → ev_M → Prop} {r : (Int32 × ev_M)} (h : F_X3_type_25 a0 i1  M = some r) (hq : Q 0 (.int r.1) r.2) : XP ev_prog b_X3_type_25 [.ref a0, .int i1] [] M Q := by
  unfold F_X3_type_25 at h
  refine x_aloadn0.mpr ?_
  obtain ⟨hc, h⟩ := gd h
  refine (x_getf4 hc).mpr ?_
  refine x_aloadn0.mpr ?_
  obtain ⟨hc, h⟩ := gd h
  refine (x_getf0 hc).mpr ?_
  refine x_iloadn1.mpr ?_
  obtain ⟨hc, h⟩ := gd h
  refine (x_iastore hc.1 hc.2).mpr ?_
  exact sF_X3_type_25_p1 h hq
def F_X3_type_14 (a0 : Nat) (i1 : Int32)  (M : ev_M) : Option (Int32 × ev_M) := (if ([2] : List Nat).contains (mK M a0) = true then (if ¬ (mI M a0 20) = (iI (5)) then F_X3_type_25 a0 i1  M else some ((iI (-4)), M)) else none)
theorem sF_X3_type_14 {a0 : Nat} {i1 : Int32}   {M : ev_M} {Q : Nat → Value → ev_M → Prop} {r : (Int32 × ev_M)} (h : F_X3_type_14 a0 i1  M = some r) (hq : Q 0 (.int r.1) r.2) : XP ev_prog b_X3_type_14 [.ref a0, .int i1] [] M Q := by
  unfold F_X3_type_14 at h
  refine x_aloadn0.mpr ?_
  obtain ⟨hc, h⟩ := gd h
  refine (x_getf0 hc).mpr ?_
  refine x_iconst.mpr ?_
  rcases ife h with ⟨hc, h⟩ | ⟨hc, h⟩
  · rw [x_icmp_ne, if_pos hc, bk_X3_type_25]
    exact sF_X3_type_25 h hq
  · rw [x_icmp_ne, if_neg hc]
    refine (x_bipush (by decide)).mpr ?_
    cases h
    exact x_ireturn.mpr hq
def F_X3_type_0 (a0 : Nat) (i1 : Int32)  (M : ev_M) : Option (Int32 × ev_M) := (f_X3_in i1 (iI (0)) (iI (255)) M).bind fun r5_1 => (if ¬ r5_1.1 = 0 then F_X3_type_14 a0 i1  r5_1.2 else some ((iI (-2)), r5_1.2))
theorem sF_X3_type_0 {a0 : Nat} {i1 : Int32}   {M : ev_M} {Q : Nat → Value → ev_M → Prop} {r : (Int32 × ev_M)} (h : F_X3_type_0 a0 i1  M = some r) (hq : Q 0 (.int r.1) r.2) : XP ev_prog b_X3_type_0 [.ref a0, .int i1] [] M Q := by
  unfold F_X3_type_0 at h
  refine x_iloadn1.mpr ?_
  refine x_iconst.mpr ?_
  refine (x_sipush (by decide)).mpr ?_
  obtain ⟨r5_1, hz, h⟩ := Option.bind_eq_some_iff.mp h
  refine (y_stat3 ml_X3_in (by show 3 ≤ 3; decide) (by decide) (by decide) (by show ¬ 8 < 0; decide)).mpr ?_
  refine sf_X3_in hz ?_
  refine xk0.mpr ?_
  show XP ev_prog _ _ (.int r5_1.1 :: _) r5_1.2 Q
  rcases ife h with ⟨hc, h⟩ | ⟨hc, h⟩
  · rw [x_if_ne, if_pos hc, bk_X3_type_14]
    exact sF_X3_type_14 h hq
  · rw [x_if_ne, if_neg hc]
    refine (x_bipush (by decide)).mpr ?_
    cases h
    exact x_ireturn.mpr hq
def f_X3_type (a0 : Nat) (i1 : Int32) (M : ev_M) : Option (Int32 × ev_M) := F_X3_type_0 a0 i1 M
theorem sf_X3_type {a0 : Nat} {i1 : Int32} {M : ev_M} {Q : Nat → Value → ev_M → Prop} {r : (Int32 × ev_M)} (h : f_X3_type a0 i1 M = some r) (hq : Q 0 (.int r.1) r.2) : CX ev_prog 89 [.ref a0, .int i1] M Q := by
  rw [cx_open (ls := [.ref a0, .int i1]) bk_X3_type_0 rfl ml_X3_type rfl]
  exact sF_X3_type_0 h hq
def F_X3_wipe_0_p1 (i1 : Int32)  (M : ev_M) : Option (Int32 × ev_M) := some (i1, M)
theorem sF_X3_wipe_0_p1 {i1 : Int32}  {z0 : Value} {M : ev_M} {Q : Nat → Value → ev_M → Prop} {r : (Int32 × ev_M)} (h : F_X3_wipe_0_p1 i1  M = some r) (hq : Q 0 (.int r.1) r.2) : XP ev_prog [((.iload_n 1, 1, []), []), ((.ireturn, 1, []), [])] [z0, .int i1] [] M Q := by
  unfold F_X3_wipe_0_p1 at h
  refine x_iloadn1.mpr ?_
  cases h
  exact x_ireturn.mpr hq
def F_X3_wipe_0 (a0 : Nat)  (M : ev_M) : Option (Int32 × ev_M) := (if ([2] : List Nat).contains (mK M a0) = true then (if ([2] : List Nat).contains (mK M a0) = true then F_X3_wipe_0_p1 (mI M a0 20)  (wI M a0 20 (iI (0))) else none) else none)
theorem sF_X3_wipe_0 {a0 : Nat}  {z1 : Value} {M : ev_M} {Q : Nat → Value → ev_M → Prop} {r : (Int32 × ev_M)} (h : F_X3_wipe_0 a0  M = some r) (hq : Q 0 (.int r.1) r.2) : XP ev_prog b_X3_wipe_0 [.ref a0, z1] [] M Q := by
  unfold F_X3_wipe_0 at h
  refine x_aloadn0.mpr ?_
  obtain ⟨hc, h⟩ := gd h
  refine (x_getf0 hc).mpr ?_
  refine x_istoren1.mpr ?_
  refine x_aloadn0.mpr ?_
  refine x_iconst.mpr ?_
  obtain ⟨hc, h⟩ := gd h
  refine (x_putf0 hc).mpr ?_
  exact sF_X3_wipe_0_p1 h hq
def f_X3_wipe (a0 : Nat) (M : ev_M) : Option (Int32 × ev_M) := F_X3_wipe_0 a0 M
theorem sf_X3_wipe {a0 : Nat} {M : ev_M} {Q : Nat → Value → ev_M → Prop} {r : (Int32 × ev_M)} (h : f_X3_wipe a0 M = some r) (hq : Q 0 (.int r.1) r.2) : CX ev_prog 91 [.ref a0] M Q := by
  rw [cx_open (ls := [.ref a0, jk]) bk_X3_wipe_0 rfl ml_X3_wipe rfl]
  exact sF_X3_wipe_0 h hq
def F_X3_isTyped_137  (s0 : Int32) (M : ev_M) : Option (Int32 × ev_M) := (if s0 = 0 ∨ s0 = 1 then some (s0, M) else none)
theorem sF_X3_isTyped_137  {s0 : Int32} {z0 : Value} {z1 : Value} {z2 : Value} {z3 : Value} {z4 : Value} {z5 : Value} {z6 : Value} {z7 : Value} {M : ev_M} {Q : Nat → Value → ev_M → Prop} {r : (Int32 × ev_M)} (h : F_X3_isTyped_137  s0 M = some r) (hq : Q 0 (.int r.1) r.2) : XP ev_prog b_X3_isTyped_137 [z0, z1, z2, z3, z4, z5, z6, z7] [.int s0] M Q := by
  unfold F_X3_isTyped_137 at h
  refine x_kill.mpr ?_
  show XP ev_prog _ [jk, jk, jk, jk, jk, jk, jk, jk] [.int s0] M Q
  obtain ⟨hc, h⟩ := gd h
  cases h
  exact (x_ireturnZ hc).mpr hq
def F_X3_isTyped_136   (M : ev_M) : Option (Int32 × ev_M) := F_X3_isTyped_137  (iI (0)) M
theorem sF_X3_isTyped_136   {z0 : Value} {z1 : Value} {z2 : Value} {z3 : Value} {z4 : Value} {z5 : Value} {z6 : Value} {z7 : Value} {M : ev_M} {Q : Nat → Value → ev_M → Prop} {r : (Int32 × ev_M)} (h : F_X3_isTyped_136   M = some r) (hq : Q 0 (.int r.1) r.2) : XP ev_prog b_X3_isTyped_136 [z0, z1, z2, z3, z4, z5, z6, z7] [] M Q := by
  unfold F_X3_isTyped_136 at h
  refine x_kill.mpr ?_
  show XP ev_prog _ [jk, jk, jk, jk, jk, jk, jk, jk] [] M Q
  refine x_iconst.mpr ?_
  refine x_fall.mpr ?_
  rw [bk_X3_isTyped_137]
  exact sF_X3_isTyped_137 h hq
def F_X3_isTyped_132   (M : ev_M) : Option (Int32 × ev_M) := F_X3_isTyped_137  (iI (1)) M
theorem sF_X3_isTyped_132   {z0 : Value} {z1 : Value} {z2 : Value} {z3 : Value} {z4 : Value} {z5 : Value} {z6 : Value} {z7 : Value} {M : ev_M} {Q : Nat → Value → ev_M → Prop} {r : (Int32 × ev_M)} (h : F_X3_isTyped_132   M = some r) (hq : Q 0 (.int r.1) r.2) : XP ev_prog b_X3_isTyped_132 [z0, z1, z2, z3, z4, z5, z6, z7] [] M Q := by
  unfold F_X3_isTyped_132 at h
  refine x_kill.mpr ?_
  show XP ev_prog _ [jk, jk, jk, jk, jk, jk, jk, jk] [] M Q
  refine x_iconst.mpr ?_
  refine x_goto.mpr ?_
  rw [bk_X3_isTyped_137]
  exact sF_X3_isTyped_137 h hq
def F_X3_isTyped_108 (a0 : Nat) (i5 : Int32) (i6 : Int32) (s0 : Int32) (M : ev_M) : Option (Int32 × ev_M) := (if s0 = 0 then F_X3_isTyped_136   M else (if i6 < (iI (5)) then F_X3_isTyped_132   M else (if ([2] : List Nat).contains (mK M a0) = true then (if ev_isI (mK M (mA M a0 19)) = true ∧ ev_in (iI (4)) (mN M (mA M a0 19)) = true then (if ¬ (mI M (mA M a0 19) (ev_ix (iI (4)))) = i5 then F_X3_isTyped_136   M else F_X3_isTyped_132   M) else none) else none)))
theorem sF_X3_isTyped_108 {a0 : Nat} {i5 : Int32} {i6 : Int32} {s0 : Int32} {z1 : Value} {z2 : Value} {z3 : Value} {z4 : Value} {z7 : Value} {M : ev_M} {Q : Nat → Value → ev_M → Prop} {r : (Int32 × ev_M)} (h : F_X3_isTyped_108 a0 i5 i6 s0 M = some r) (hq : Q 0 (.int r.1) r.2) : XP ev_prog b_X3_isTyped_108 [.ref a0, z1, z2, z3, z4, .int i5, .int i6, z7] [.int s0] M Q := by
  unfold F_X3_isTyped_108 at h
  refine x_kill.mpr ?_
  show XP ev_prog _ [.ref a0, jk, jk, jk, jk, .int i5, .int i6, jk] [.int s0] M Q
  refine x_istore7.mpr ?_
  refine x_iload7.mpr ?_
  rcases ife h with ⟨hc, h⟩ | ⟨hc, h⟩
  · rw [x_if_eq, if_pos hc, bk_X3_isTyped_136]
    exact sF_X3_isTyped_136 h hq
  · rw [x_if_eq, if_neg hc]
    refine x_iload6.mpr ?_
    refine x_iconst.mpr ?_
    rcases ife h with ⟨hc, h⟩ | ⟨hc, h⟩
    · rw [x_icmp_lt, if_pos hc, bk_X3_isTyped_132]
      exact sF_X3_isTyped_132 h hq
    · rw [x_icmp_lt, if_neg hc]
      refine x_aloadn0.mpr ?_
      obtain ⟨hc, h⟩ := gd h
      refine (x_getf4 hc).mpr ?_
      refine x_iconst.mpr ?_
      obtain ⟨hc, h⟩ := gd h
      refine (x_iaload hc.1 hc.2).mpr ?_
      refine x_iload5.mpr ?_
      rcases ife h with ⟨hc, h⟩ | ⟨hc, h⟩
      · rw [x_icmp_ne, if_pos hc, bk_X3_isTyped_136]
        exact sF_X3_isTyped_136 h hq
      · rw [x_icmp_ne, if_neg hc]
        refine x_fall.mpr ?_
        rw [bk_X3_isTyped_132]
        exact sF_X3_isTyped_132 h hq
def F_X3_isTyped_107 (a0 : Nat) (i5 : Int32) (i6 : Int32)  (M : ev_M) : Option (Int32 × ev_M) := F_X3_isTyped_108 a0 i5 i6 (iI (0)) M
theorem sF_X3_isTyped_107 {a0 : Nat} {i5 : Int32} {i6 : Int32}  {z1 : Value} {z2 : Value} {z3 : Value} {z4 : Value} {z7 : Value} {M : ev_M} {Q : Nat → Value → ev_M → Prop} {r : (Int32 × ev_M)} (h : F_X3_isTyped_107 a0 i5 i6  M = some r) (hq : Q 0 (.int r.1) r.2) : XP ev_prog b_X3_isTyped_107 [.ref a0, z1, z2, z3, z4, .int i5, .int i6, z7] [] M Q := by
  unfold F_X3_isTyped_107 at h
  refine x_kill.mpr ?_
  show XP ev_prog _ [.ref a0, jk, jk, jk, jk, .int i5, .int i6, jk] [] M Q
  refine x_iconst.mpr ?_
  refine x_fall.mpr ?_
  rw [bk_X3_isTyped_108]
  exact sF_X3_isTyped_108 h hq
def F_X3_isTyped_103 (a0 : Nat) (i5 : Int32) (i6 : Int32)  (M : ev_M) : Option (Int32 × ev_M) := F_X3_isTyped_108 a0 i5 i6 (iI (1)) M
theorem sF_X3_isTyped_103 {a0 : Nat} {i5 : Int32} {i6 : Int32}  {z1 : Value} {z2 : Value} {z3 : Value} {z4 : Value} {z7 : Value} {M : ev_M} {Q : Nat → Value → ev_M → Prop} {r : (Int32 × ev_M)} (h : F_X3_isTyped_103 a0 i5 i6  M = some r) (hq : Q 0 (.int r.1) r.2) : XP ev_prog b_X3_isTyped_103 [.ref a0, z1, z2, z3, z4, .int i5, .int i6, z7] [] M Q := by
  unfold F_X3_isTyped_103 at h
  refine x_kill.mpr ?_
  show XP ev_prog _ [.ref a0, jk, jk, jk, jk, .int i5, .int i6, jk] [] M Q
  refine x_iconst.mpr ?_
  refine x_goto.mpr ?_
  rw [bk_X3_isTyped_108]
  exact sF_X3_isTyped_108 h hq
def F_X3_isTyped_86 (a0 : Nat) (i4 : Int32) (i5 : Int32) (i6 : Int32)  (M : ev_M) : Option (Int32 × ev_M) := (if i6 < (iI (4)) then F_X3_isTyped_103 a0 i5 i6  M else (if ([2] : List Nat).contains (mK M a0) = true then (if ev_isI (mK M (mA M a0 19)) = true ∧ ev_in (iI (3)) (mN M (mA M a0 19)) = true then (if ¬ (mI M (mA M a0 19) (ev_ix (iI (3)))) = i4 then F_X3_isTyped_107 a0 i5 i6  M else F_X3_isTyped_103 a0 i5 i6  M) else none) else none))
theorem sF_X3_isTyped_86 {a0 : Nat} {i4 : Int32} {i5 : Int32} {i6 : Int32}  {z1 : Value} {z2 : Value} {z3 : Value} {z7 : Value} {M : ev_M} {Q : Nat → Value → ev_M → Prop} {r : (Int32 × ev_M)} (h : F_X3_isTyped_86 a0 i4 i5 i6  M = some r) (hq : Q 0 (.int r.1) r.2) : XP ev_prog b_X3_isTyped_86 [.ref a0, z1, z2, z3, .int i4, .int i5, .int i6, z7] [] M Q := by
  unfold F_X3_isTyped_86 at h
  refine x_kill.mpr ?_
  show XP ev_prog _ [.ref a0, jk, jk, jk, .int i4, .int i5, .int i6, jk] [] M Q
  refine x_iload6.mpr ?_
  refine x_iconst.mpr ?_
  rcases ife h with ⟨hc, h⟩ | ⟨hc, h⟩
  · rw [x_icmp_lt, if_pos hc, bk_X3_isTyped_103]
    exact sF_X3_isTyped_103 h hq
  · rw [x_icmp_lt, if_neg hc]
    refine x_aloadn0.mpr ?_
    obtain ⟨hc, h⟩ := gd h
    refine (x_getf4 hc).mpr ?_
    refine x_iconst.mpr ?_
    obtain ⟨hc, h⟩ := gd h
    refine (x_iaload hc.1 hc.2).mpr ?_
    refine x_iload4.mpr ?_
    rcases ife h with ⟨hc, h⟩ | ⟨hc, h⟩
    · rw [x_icmp_ne, if_pos hc, bk_X3_isTyped_107]
      exact sF_X3_isTyped_107 h hq
    · rw [x_icmp_ne, if_neg hc]
      refine x_fall.mpr ?_
      rw [bk_X3_isTyped_103]
      exact sF_X3_isTyped_103 h hq
def F_X3_isTyped_63 (a0 : Nat) (i3 : Int32) (i4 : Int32) (i5 : Int32) (i6 : Int32) (s0 : Int32) (M : ev_M) : Option (Int32 × ev_M) := (if s0 = 0 then F_X3_isTyped_107 a0 i5 i6  M else (if i6 < (iI (3)) then F_X3_isTyped_86 a0 i4 i5 i6  M else (if ([2] : List Nat).contains (mK M a0) = true then (if ev_isI (mK M (mA M a0 19)) = true ∧ ev_in (iI (2)) (mN M (mA M a0 19)) = true then (if ¬ (mI M (mA M a0 19) (ev_ix (iI (2)))) = i3 then F_X3_isTyped_107 a0 i5 i6  M else F_X3_isTyped_86 a0 i4 i5 i6  M) else none) else none)))
theorem sF_X3_isTyped_63 {a0 : Nat} {i3 : Int32} {i4 : Int32} {i5 : Int32} {i6 : Int32} {s0 : Int32} {z1 : Value} {z2 : Value} {z7 : Value} {M : ev_M} {Q : Nat → Value → ev_M → Prop} {r : (Int32 × ev_M)} (h : F_X3_isTyped_63 a0 i3 i4 i5 i6 s0 M = some r) (hq : Q 0 (.int r.1) r.2) : XP ev_prog b_X3_isTyped_63 [.ref a0, z1, z2, .int i3, .int i4, .int i5, .int i6, z7] [.int s0] M Q := by
  unfold F_X3_isTyped_63 at h
  refine x_kill.mpr ?_
  show XP ev_prog _ [.ref a0, jk, jk, .int i3, .int i4, .int i5, .int i6, jk] [.int s0] M Q
  refine x_istore7.mpr ?_
  refine x_iload7.mpr ?_
  rcases ife h with ⟨hc, h⟩ | ⟨hc, h⟩
  · rw [x_if_eq, if_pos hc, bk_X3_isTyped_107]
    exact sF_X3_isTyped_107 h hq
  · rw [x_if_eq, if_neg hc]
    refine x_iload6.mpr ?_
    refine x_iconst.mpr ?_
    rcases ife h with ⟨hc, h⟩ | ⟨hc, h⟩
    · rw [x_icmp_lt, if_pos hc, bk_X3_isTyped_86]
      exact sF_X3_isTyped_86 h hq
    · rw [x_icmp_lt, if_neg hc]
      refine x_aloadn0.mpr ?_
      obtain ⟨hc, h⟩ := gd h
      refine (x_getf4 hc).mpr ?_
      refine x_iconst.mpr ?_
      obtain ⟨hc, h⟩ := gd h
      refine (x_iaload hc.1 hc.2).mpr ?_
      refine x_iloadn3.mpr ?_
      rcases ife h with ⟨hc, h⟩ | ⟨hc, h⟩
      · rw [x_icmp_ne, if_pos hc, bk_X3_isTyped_107]
        exact sF_X3_isTyped_107 h hq
      · rw [x_icmp_ne, if_neg hc]
        refine x_fall.mpr ?_
        rw [bk_X3_isTyped_86]
        exact sF_X3_isTyped_86 h hq
def F_X3_isTyped_62 (a0 : Nat) (i3 : Int32) (i4 : Int32) (i5 : Int32) (i6 : Int32)  (M : ev_M) : Option (Int32 × ev_M) := F_X3_isTyped_63 a0 i3 i4 i5 i6 (iI (0)) M
theorem sF_X3_isTyped_62 {a0 : Nat} {i3 : Int32} {i4 : Int32} {i5 : Int32} {i6 : Int32}  {z1 : Value} {z2 : Value} {z7 : Value} {M : ev_M} {Q : Nat → Value → ev_M → Prop} {r : (Int32 × ev_M)} (h : F_X3_isTyped_62 a0 i3 i4 i5 i6  M = some r) (hq : Q 0 (.int r.1) r.2) : XP ev_prog b_X3_isTyped_62 [.ref a0, z1, z2, .int i3, .int i4, .int i5, .int i6, z7] [] M Q := by
  unfold F_X3_isTyped_62 at h
  refine x_kill.mpr ?_
  show XP ev_prog _ [.ref a0, jk, jk, .int i3, .int i4, .int i5, .int i6, jk] [] M Q
  refine x_iconst.mpr ?_
  refine x_fall.mpr ?_
  rw [bk_X3_isTyped_63]
  exact sF_X3_isTyped_63 h hq
def F_X3_isTyped_27 (a0 : Nat) (i1 : Int32) (i2 : Int32) (i3 : Int32) (i4 : Int32) (i5 : Int32) (s0 : Int32) (M : ev_M) : Option (Int32 × ev_M) := (if ([2] : List Nat).contains (mK M a0) = true then (if ¬ (mI M a0 20) = s0 then F_X3_isTyped_62 a0 i3 i4 i5 s0  M else (if ([2] : List Nat).contains (mK M a0) = true then (if ev_isI (mK M (mA M a0 19)) = true ∧ ev_in (iI (0)) (mN M (mA M a0 19)) = true then (if ¬ (mI M (mA M a0 19) (ev_ix (iI (0)))) = i1 then F_X3_isTyped_62 a0 i3 i4 i5 s0  M else (if ([2] : List Nat).contains (mK M a0) = true then (if ev_isI (mK M (mA M a0 19)) = true ∧ ev_in (iI (1)) (mN M (mA M a0 19)) = true then (if ¬ (mI M (mA M a0 19) (ev_ix (iI (1)))) = i2 then F_X3_isTyped_62 a0 i3 i4 i5 s0  M else F_X3_isTyped_63 a0 i3 i4 i5 s0 (iI (1)) M) else none) else none)) else none) else none)) else none)
theorem sF_X3_isTyped_27 {a0 : Nat} {i1 : Int32} {i2 : Int32} {i3 : Int32} {i4 : Int32} {i5 : Int32} {s0 : Int32} {z6 : Value} {z7 : Value} {M : ev_M} {Q : Nat → Value → ev_M → Prop} {r : (Int32 × ev_M)} (h : F_X3_isTyped_27 a0 i1 i2 i3 i4 i5 s0 M = some r) (hq : Q 0 (.int r.1) r.2) : XP ev_prog b_X3_isTyped_27 [.ref a0, .int i1, .int i2, .int i3, .int i4, .int i5, z6, z7] [.int s0] M Q := by
  unfold F_X3_isTyped_27 at h
  refine x_kill.mpr ?_
  show XP ev_prog _ [.ref a0, .int i1, .int i2, .int i3, .int i4, .int i5, jk, jk] [.int s0] M Q
  refine x_istore6.mpr ?_
  refine x_aloadn0.mpr ?_
  obtain ⟨hc, h⟩ := gd h
  refine (x_getf0 hc).mpr ?_
  refine x_iload6.mpr ?_
  rcases ife h with ⟨hc, h⟩ | ⟨hc, h⟩
  · rw [x_icmp_ne, if_pos hc, bk_X3_isTyped_62]
    exact sF_X3_isTyped_62 h hq
  · rw [x_icmp_ne, if_neg hc]
    refine x_aloadn0.mpr ?_
    obtain ⟨hc, h⟩ := gd h
    refine (x_getf4 hc).mpr ?_
    refine x_iconst.mpr ?_
    obtain ⟨hc, h⟩ := gd h
    refine (x_iaload hc.1 hc.2).mpr ?_
    refine x_iloadn1.mpr ?_
    rcases ife h with ⟨hc, h⟩ | ⟨hc, h⟩
    · rw [x_icmp_ne, if_pos hc, bk_X3_isTyped_62]
      exact sF_X3_isTyped_62 h hq
    · rw [x_icmp_ne, if_neg hc]
      refine x_aloadn0.mpr ?_
      obtain ⟨hc, h⟩ := gd h
      refine (x_getf4 hc).mpr ?_
      refine x_iconst.mpr ?_
      obtain ⟨hc, h⟩ := gd h
      refine (x_iaload hc.1 hc.2).mpr ?_
      refine x_iloadn2.mpr ?_
      rcases ife h with ⟨hc, h⟩ | ⟨hc, h⟩
      · rw [x_icmp_ne, if_pos hc, bk_X3_isTyped_62]
        exact sF_X3_isTyped_62 h hq
      · rw [x_icmp_ne, if_neg hc]
        refine x_iconst.mpr ?_
        refine x_goto.mpr ?_
        rw [bk_X3_isTyped_63]
        exact sF_X3_isTyped_63 h hq
def F_X3_isTyped_26 (a0 : Nat) (i1 : Int32) (i2 : Int32) (i3 : Int32) (i4 : Int32) (i5 : Int32)  (M : ev_M) : Option (Int32 × ev_M) := F_X3_isTyped_27 a0 i1 i2 i3 i4 i5 (iI (2)) M
theorem sF_X3_isTyped_26 {a0 : Nat} {i1 : Int32} {i2 : Int32} {i3 : Int32} {i4 : Int32} {i5 : Int32}  {z6 : Value} {z7 : Value} {M : ev_M} {Q : Nat → Value → ev_M → Prop} {r : (Int32 × ev_M)} (h : F_X3_isTyped_26 a0 i1 i2 i3 i4 i5  M = some r) (hq : Q 0 (.int r.1) r.2) : XP ev_prog b_X3_isTyped_26 [.ref a0, .int i1, .int i2, .int i3, .int i4, .int i5, z6, z7] [] M Q := by
  unfold F_X3_isTyped_26 at h
  refine x_iconst.mpr ?_
  refine x_fall.mpr ?_
  rw [bk_X3_isTyped_27]
  exact sF_X3_isTyped_27 h hq
def F_X3_isTyped_18 (a0 : Nat) (i1 : Int32) (i2 : Int32) (i3 : Int32) (i4 : Int32) (i5 : Int32)  (M : ev_M) : Option (Int32 × ev_M) := (if i3 ≤ 0 then F_X3_isTyped_26 a0 i1 i2 i3 i4 i5  M else F_X3_isTyped_27 a0 i1 i2 i3 i4 i5 (iI (3)) M)
theorem sF_X3_isTyped_18 {a0 : Nat} {i1 : Int32} {i2 : Int32} {i3 : Int32} {i4 : Int32} {i5 : Int32}  {z6 : Value} {z7 : Value} {M : ev_M} {Q : Nat → Value → ev_M → Prop} {r : (Int32 × ev_M)} (h : F_X3_isTyped_18 a0 i1 i2 i3 i4 i5  M = some r) (hq : Q 0 (.int r.1) r.2) : XP ev_prog b_X3_isTyped_18 [.ref a0, .int i1, .int i2, .int i3, .int i4, .int i5, z6, z7] [] M Q := by
  unfold F_X3_isTyped_18 at h
  refine x_iloadn3.mpr ?_
  rcases ife h with ⟨hc, h⟩ | ⟨hc, h⟩
  · rw [x_if_le, if_pos hc, bk_X3_isTyped_26]
    exact sF_X3_isTyped_26 h hq
  · rw [x_if_le, if_neg hc]
    refine x_iconst.mpr ?_
    refine x_goto.mpr ?_
    rw [bk_X3_isTyped_27]
    exact sF_X3_isTyped_27 h hq
def F_X3_isTyped_9 (a0 : Nat) (i1 : Int32) (i2 : Int32) (i3 : Int32) (i4 : Int32) (i5 : Int32)  (M : ev_M) : Option (Int32 × ev_M) := (if i4 ≤ 0 then F_X3_isTyped_18 a0 i1 i2 i3 i4 i5  M else F_X3_isTyped_27 a0 i1 i2 i3 i4 i5 (iI (4)) M)
theorem sF_X3_isTyped_9 {a0 : Nat} {i1 : Int32} {i2 : Int32} {i3 : Int32} {i4 : Int32} {i5 : Int32}  {z6 : Value} {z7 : Value} {M : ev_M} {Q : Nat → Value → ev_M → Prop} {r : (Int32 × ev_M)} (h : F_X3_isTyped_9 a0 i1 i2 i3 i4 i5  M = some r) (hq : Q 0 (.int r.1) r.2) : XP ev_prog b_X3_isTyped_9 [.ref a0, .int i1, .int i2, .int i3, .int i4, .int i5, z6, z7] [] M Q := by
  unfold F_X3_isTyped_9 at h
  refine x_iload4.mpr ?_
  rcases ife h with ⟨hc, h⟩ | ⟨hc, h⟩
  · rw [x_if_le, if_pos hc, bk_X3_isTyped_18]
    exact sF_X3_isTyped_18 h hq
  · rw [x_if_le, if_neg hc]
    refine x_iconst.mpr ?_
    refine x_goto.mpr ?_
    rw [bk_X3_isTyped_27]
    exact sF_X3_isTyped_27 h hq
def F_X3_isTyped_0 (a0 : Nat) (i1 : Int32) (i2 : Int32) (i3 : Int32) (i4 : Int32) (i5 : Int32)  (M : ev_M) : Option (Int32 × ev_M) := (if i5 ≤ 0 then F_X3_isTyped_9 a0 i1 i2 i3 i4 i5  M else F_X3_isTyped_27 a0 i1 i2 i3 i4 i5 (iI (5)) M)
theorem sF_X3_isTyped_0 {a0 : Nat} {i1 : Int32} {i2 : Int32} {i3 : Int32} {i4 : Int32} {i5 : Int32}  {z6 : Value} {z7 : Value} {M : ev_M} {Q : Nat → Value → ev_M → Prop} {r : (Int32 × ev_M)} (h : F_X3_isTyped_0 a0 i1 i2 i3 i4 i5  M = some r) (hq : Q 0 (.int r.1) r.2) : XP ev_prog b_X3_isTyped_0 [.ref a0, .int i1, .int i2, .int i3, .int i4, .int i5, z6, z7] [] M Q := by
  unfold F_X3_isTyped_0 at h
  refine x_iload5.mpr ?_
  rcases ife h with ⟨hc, h⟩ | ⟨hc, h⟩
  · rw [x_if_le, if_pos hc, bk_X3_isTyped_9]
    exact sF_X3_isTyped_9 h hq
  · rw [x_if_le, if_neg hc]
    refine x_iconst.mpr ?_
    refine x_goto.mpr ?_
    rw [bk_X3_isTyped_27]
    exact sF_X3_isTyped_27 h hq
def f_X3_isTyped (a0 : Nat) (i1 : Int32) (i2 : Int32) (i3 : Int32) (i4 : Int32) (i5 : Int32) (M : ev_M) : Option (Int32 × ev_M) := F_X3_isTyped_0 a0 i1 i2 i3 i4 i5 M
theorem sf_X3_isTyped {a0 : Nat} {i1 : Int32} {i2 : Int32} {i3 : Int32} {i4 : Int32} {i5 : Int32} {M : ev_M} {Q : Nat → Value → ev_M → Prop} {r : (Int32 × ev_M)} (h : f_X3_isTyped a0 i1 i2 i3 i4 i5 M = some r) (hq : Q 0 (.int r.1) r.2) : CX ev_prog 125 [.ref a0, .int i1, .int i2, .int i3, .int i4, .int i5] M Q := by
  rw [cx_open (ls := [.ref a0, .int i1, .int i2, .int i3, .int i4, .int i5, jk, jk]) bk_X3_isTyped_0 rfl ml_X3_isTyped rfl]
  exact sF_X3_isTyped_0 h hq
def F_X3_isName_222 (a0 : Nat)  (M : ev_M) : Option (Int32 × ev_M) := (if ¬ a0 = 0 ∧ mK M a0 = 2 then (f_X3_isTyped a0 (iI (116)) (iI (105)) (iI (109)) (iI (101)) (iI (115)) M).bind fun r233_1 => (if r233_1.1 = 0 ∨ r233_1.1 = 1 then some (r233_1.1, r233_1.2) else none) else none)
theorem sF_X3_isName_222 {a0 : Nat}  {z1 : Value} {M : ev_M} {Q : Nat → Value → ev_M → Prop} {r : (Int32 × ev_M)} (h : F_X3_isName_222 a0  M = some r) (hq : Q 0 (.int r.1) r.2) : XP ev_prog b_X3_isName_222 [.ref a0, z1] [] M Q := by
  unfold F_X3_isName_222 at h
  refine x_aloadn0.mpr ?_
  refine (x_bipush (by decide)).mpr ?_
  refine (x_bipush (by decide)).mpr ?_
  refine (x_bipush (by decide)).mpr ?_
  refine (x_bipush (by decide)).mpr ?_
  refine (x_bipush (by decide)).mpr ?_
  obtain ⟨hc, h⟩ := gd h
  obtain ⟨r233_1, hz, h⟩ := Option.bind_eq_some_iff.mp h
  refine (y_virt6 ml_X3_isTyped (by show 6 ≤ 8; decide) hc.1 hc.2 rfl (by decide) (by show ¬ 8 < 0; decide)).mpr ?_
  refine sf_X3_isTyped hz ?_
  refine xk0.mpr ?_
  show XP ev_prog _ _ (.int r233_1.1 :: _) r233_1.2 Q
  obtain ⟨hc, h⟩ := gd h
  cases h
  exact (x_ireturnZ hc).mpr hq
def F_X3_isName_64 (a0 : Nat)  (M : ev_M) : Option (Int32 × ev_M) := (if ¬ a0 = 0 ∧ mK M a0 = 2 then (f_X3_isTyped a0 (iI (97)) (iI (100)) (iI (100)) (iI (0)) (iI (0)) M).bind fun r73_1 => (if r73_1.1 = 0 ∨ r73_1.1 = 1 then some (r73_1.1, r73_1.2) else none) else none)
theorem sF_X3_isName_64 {a0 : Nat}  {z1 : Value} {M : ev_M} {Q : Nat → Value → ev_M → Prop} {r : (Int32 × ev_M)} (h : F_X3_isName_64 a0  M = some r) (hq : Q 0 (.int r.1) r.2) : XP ev_prog b_X3_isName_64 [.ref a0, z1] [] M Q := by
  unfold F_X3_isName_64 at h
  refine x_aloadn0.mpr ?_
  refine (x_bipush (by decide)).mpr ?_
  refine (x_bipush (by decide)).mpr ?_
  refine (x_bipush (by decide)).mpr ?_
  refine x_iconst.mpr ?_
  refine x_iconst.mpr ?_
  obtain ⟨hc, h⟩ := gd h
  obtain ⟨r73_1, hz, h⟩ := Option.bind_eq_some_iff.mp h
  refine (y_virt6 ml_X3_isTyped (by show 6 ≤ 8; decide) hc.1 hc.2 rfl (by decide) (by show ¬ 8 < 0; decide)).mpr ?_
  refine sf_X3_isTyped hz ?_
  refine xk0.mpr ?_
  show XP ev_prog _ _ (.int r73_1.1 :: _) r73_1.2 Q
  obtain ⟨hc, h⟩ := gd h
  cases h
  exact (x_ireturnZ hc).mpr hq
def F_X3_isName_77 (a0 : Nat)  (M : ev_M) : Option (Int32 × ev_M) := (if ¬ a0 = 0 ∧ mK M a0 = 2 then (f_X3_isTyped a0 (iI (115)) (iI (117)) (iI (98)) (iI (0)) (iI (0)) M).bind fun r86_1 => (if r86_1.1 = 0 ∨ r86_1.1 = 1 then some (r86_1.1, r86_1.2) else none) else none)
theorem sF_X3_isName_77 {a0 : Nat}  {z1 : Value} {M : ev_M} {Q : Nat → Value → ev_M → Prop} {r : (Int32 × ev_M)} (h : F_X3_isName_77 a0  M = some r) (hq : Q 0 (.int r.1) r.2) : XP ev_prog b_X3_isName_77 [.ref a0, z1] [] M Q := by
  unfold F_X3_isName_77 at h
  refine x_aloadn0.mpr ?_
  refine (x_bipush (by decide)).mpr ?_
  refine (x_bipush (by decide)).mpr ?_
  refine (x_bipush (by decide)).mpr ?_
  refine x_iconst.mpr ?_
  refine x_iconst.mpr ?_
  obtain ⟨hc, h⟩ := gd h
  obtain ⟨r86_1, hz, h⟩ := Option.bind_eq_some_iff.mp h
  refine (y_virt6 ml_X3_isTyped (by show 6 ≤ 8; decide) hc.1 hc.2 rfl (by decide) (by show ¬ 8 < 0; decide)).mpr ?_
  refine sf_X3_isTyped hz ?_
  refine xk0.mpr ?_
  show XP ev_prog _ _ (.int r86_1.1 :: _) r86_1.2 Q
  obtain ⟨hc, h⟩ := gd h
  cases h
  exact (x_ireturnZ hc).mpr hq
def F_X3_isName_90 (a0 : Nat)  (M : ev_M) : Option (Int32 × ev_M) := (if ¬ a0 = 0 ∧ mK M a0 = 2 then (f_X3_isTyped a0 (iI (109)) (iI (117)) (iI (108)) (iI (0)) (iI (0)) M).bind fun r99_1 => (if r99_1.1 = 0 ∨ r99_1.1 = 1 then some (r99_1.1, r99_1.2) else none) else none)
theorem sF_X3_isName_90 {a0 : Nat}  {z1 : Value} {M : ev_M} {Q : Nat → Value → ev_M → Prop} {r : (Int32 × ev_M)} (h : F_X3_isName_90 a0  M = some r) (hq : Q 0 (.int r.1) r.2) : XP ev_prog b_X3_isName_90 [.ref a0, z1] [] M Q := by
  unfold F_X3_isName_90 at h
  refine x_aloadn0.mpr ?_
  refine (x_bipush (by decide)).mpr ?_
  refine (x_bipush (by decide)).mpr ?_
  refine (x_bipush (by decide)).mpr ?_
  refine x_iconst.mpr ?_
  refine x_iconst.mpr ?_
  obtain ⟨hc, h⟩ := gd h
  obtain ⟨r99_1, hz, h⟩ := Option.bind_eq_some_iff.mp h
  refine (y_virt6 ml_X3_isTyped (by show 6 ≤ 8; decide) hc.1 hc.2 rfl (by decide) (by show ¬ 8 < 0; decide)).mpr ?_
  refine sf_X3_isTyped hz ?_
  refine xk0.mpr ?_
  show XP ev_prog _ _ (.int r99_1.1 :: _) r99_1.2 Q
  obtain ⟨hc, h⟩ := gd h
  cases h
  exact (x_ireturnZ hc).mpr hq
def F_X3_isName_103 (a0 : Nat)  (M : ev_M) : Option (Int32 × ev_M) := (if ¬ a0 = 0 ∧ mK M a0 = 2 then (f_X3_isTyped a0 (iI (114)) (iI (101)) (iI (109)) (iI (0)) (iI (0)) M).bind fun r112_1 => (if r112_1.1 = 0 ∨ r112_1.1 = 1 then some (r112_1.1, r112_1.2) else none) else none)
theorem sF_X3_isName_103 {a0 : Nat}  {z1 : Value} {M : ev_M} {Q : Nat → Value → ev_M → Prop} {r : (Int32 × ev_M)} (h : F_X3_isName_103 a0  M = some r) (hq : Q 0 (.int r.1) r.2) : XP ev_prog b_X3_isName_103 [.ref a0, z1] [] M Q := by
  unfold F_X3_isName_103 at h
  refine x_aloadn0.mpr ?_
  refine (x_bipush (by decide)).mpr ?_
  refine (x_bipush (by decide)).mpr ?_
  refine (x_bipush (by decide)).mpr ?_
  refine x_iconst.mpr ?_
  refine x_iconst.mpr ?_
  obtain ⟨hc, h⟩ := gd h
  obtain ⟨r112_1, hz, h⟩ := Option.bind_eq_some_iff.mp h
  refine (y_virt6 ml_X3_isTyped (by show 6 ≤ 8; decide) hc.1 hc.2 rfl (by decide) (by show ¬ 8 < 0; decide)).mpr ?_
  refine sf_X3_isTyped hz ?_
  refine xk0.mpr ?_
  show XP ev_prog _ _ (.int r112_1.1 :: _) r112_1.2 Q
  obtain ⟨hc, h⟩ := gd h
  cases h
  exact (x_ireturnZ hc).mpr hq
def F_X3_isName_116 (a0 : Nat)  (M : ev_M) : Option (Int32 × ev_M) := (if ¬ a0 = 0 ∧ mK M a0 = 2 then (f_X3_isTyped a0 (iI (109)) (iI (97)) (iI (120)) (iI (0)) (iI (0)) M).bind fun r125_1 => (if r125_1.1 = 0 ∨ r125_1.1 = 1 then some (r125_1.1, r125_1.2) else none) else none)
theorem sF_X3_isName_116 {a0 : Nat}  {z1 : Value} {M : ev_M} {Q : Nat → Value → ev_M → Prop} {r : (Int32 × ev_M)} (h : F_X3_isName_116 a0  M = some r) (hq : Q 0 (.int r.1) r.2) : XP ev_prog b_X3_isName_116 [.ref a0, z1] [] M Q := by
  unfold F_X3_isName_116 at h
  refine x_aloadn0.mpr ?_
  refine (x_bipush (by decide)).mpr ?_
  refine (x_bipush (by decide)).mpr ?_
  refine (x_bipush (by decide)).mpr ?_
  refine x_iconst.mpr ?_
  refine x_iconst.mpr ?_
  obtain ⟨hc, h⟩ := gd h
  obtain ⟨r125_1, hz, h⟩ := Option.bind_eq_some_iff.mp h
  refine (y_virt6 ml_X3_isTyped (by show 6 ≤ 8; decide) hc.1 hc.2 rfl (by decide) (by show ¬ 8 < 0; decide)).mpr ?_
  refine sf_X3_isTyped hz ?_
  refine xk0.mpr ?_
  show XP ev_prog _ _ (.int r125_1.1 :: _) r125_1.2 Q
  obtain ⟨hc, h⟩ := gd h
  cases h
  exact (x_ireturnZ hc).mpr hq
def F_X3_isName_129 (a0 : Nat)  (M : ev_M) : Option (Int32 × ev_M) := (if ¬ a0 = 0 ∧ mK M a0 = 2 then (f_X3_isTyped a0 (iI (109)) (iI (105)) (iI (110)) (iI (0)) (iI (0)) M).bind fun r138_1 => (if r138_1.1 = 0 ∨ r138_1.1 = 1 then some (r138_1.1, r138_1.2) else none) else none)
theorem sF_X3_isName_129 {a0 : Nat}  {z1 : Value} {M : ev_M} {Q : Nat → Value → ev_M → Prop} {r : (Int32 × ev_M)} (h : F_X3_isName_129 a0  M = some r) (hq : Q 0 (.int r.1) r.2) : XP ev_prog b_X3_isName_129 [.ref a0, z1] [] M Q := by
  unfold F_X3_isName_129 at h
  refine x_aloadn0.mpr ?_
  refine (x_bipush (by decide)).mpr ?_
  refine (x_bipush (by decide)).mpr ?_
  refine (x_bipush (by decide)).mpr ?_
  refine x_iconst.mpr ?_
  refine x_iconst.mpr ?_
  obtain ⟨hc, h⟩ := gd h
  obtain ⟨r138_1, hz, h⟩ := Option.bind_eq_some_iff.mp h
  refine (y_virt6 ml_X3_isTyped (by show 6 ≤ 8; decide) hc.1 hc.2 rfl (by decide) (by show ¬ 8 < 0; decide)).mpr ?_
  refine sf_X3_isTyped hz ?_
  refine xk0.mpr ?_
  show XP ev_prog _ _ (.int r138_1.1 :: _) r138_1.2 Q
  obtain ⟨hc, h⟩ := gd h
  cases h
  exact (x_ireturnZ hc).mpr hq
def F_X3_isName_142 (a0 : Nat)  (M : ev_M) : Option (Int32 × ev_M) := (if ¬ a0 = 0 ∧ mK M a0 = 2 then (f_X3_isTyped a0 (iI (97)) (iI (110)) (iI (100)) (iI (0)) (iI (0)) M).bind fun r151_1 => (if r151_1.1 = 0 ∨ r151_1.1 = 1 then some (r151_1.1, r151_1.2) else none) else none)
theorem sF_X3_isName_142 {a0 : Nat}  {z1 : Value} {M : ev_M} {Q : Nat → Value → ev_M → Prop} {r : (Int32 × ev_M)} (h : F_X3_isName_142 a0  M = some r) (hq : Q 0 (.int r.1) r.2) : XP ev_prog b_X3_isName_142 [.ref a0, z1] [] M Q := by
  unfold F_X3_isName_142 at h
  refine x_aloadn0.mpr ?_
  refine (x_bipush (by decide)).mpr ?_
  refine (x_bipush (by decide)).mpr ?_
  refine (x_bipush (by decide)).mpr ?_
  refine x_iconst.mpr ?_
  refine x_iconst.mpr ?_
  obtain ⟨hc, h⟩ := gd h
  obtain ⟨r151_1, hz, h⟩ := Option.bind_eq_some_iff.mp h
  refine (y_virt6 ml_X3_isTyped (by show 6 ≤ 8; decide) hc.1 hc.2 rfl (by decide) (by show ¬ 8 < 0; decide)).mpr ?_
  refine sf_X3_isTyped hz ?_
  refine xk0.mpr ?_
  show XP ev_prog _ _ (.int r151_1.1 :: _) r151_1.2 Q
  obtain ⟨hc, h⟩ := gd h
  cases h
  exact (x_ireturnZ hc).mpr hq
def F_X3_isName_155 (a0 : Nat)  (M : ev_M) : Option (Int32 × ev_M) := (if ¬ a0 = 0 ∧ mK M a0 = 2 then (f_X3_isTyped a0 (iI (111)) (iI (114)) (iI (0)) (iI (0)) (iI (0)) M).bind fun r163_1 => (if r163_1.1 = 0 ∨ r163_1.1 = 1 then some (r163_1.1, r163_1.2) else none) else none)
theorem sF_X3_isName_155 {a0 : Nat}  {z1 : Value} {M : ev_M} {Q : Nat → Value → ev_M → Prop} {r : (Int32 × ev_M)} (h : F_X3_isName_155 a0  M = some r) (hq : Q 0 (.int r.1) r.2) : XP ev_prog b_X3_isName_155 [.ref a0, z1] [] M Q := by
  unfold F_X3_isName_155 at h
  refine x_aloadn0.mpr ?_
  refine (x_bipush (by decide)).mpr ?_
  refine (x_bipush (by decide)).mpr ?_
  refine x_iconst.mpr ?_
  refine x_iconst.mpr ?_
  refine x_iconst.mpr ?_
  obtain ⟨hc, h⟩ := gd h
  obtain ⟨r163_1, hz, h⟩ := Option.bind_eq_some_iff.mp h
  refine (y_virt6 ml_X3_isTyped (by show 6 ≤ 8; decide) hc.1 hc.2 rfl (by decide) (by show ¬ 8 < 0; decide)).mpr ?_
  refine sf_X3_isTyped hz ?_
  refine xk0.mpr ?_
  show XP ev_prog _ _ (.int r163_1.1 :: _) r163_1.2 Q
  obtain ⟨hc, h⟩ := gd h
  cases h
  exact (x_ireturnZ hc).mpr hq
def F_X3_isName_167 (a0 : Nat)  (M : ev_M) : Option (Int32 × ev_M) := (if ¬ a0 = 0 ∧ mK M a0 = 2 then (f_X3_isTyped a0 (iI (120)) (iI (111)) (iI (114)) (iI (0)) (iI (0)) M).bind fun r176_1 => (if r176_1.1 = 0 ∨ r176_1.1 = 1 then some (r176_1.1, r176_1.2) else none) else none)
theorem sF_X3_isName_167 {a0 : Nat}  {z1 : Value} {M : ev_M} {Q : Nat → Value → ev_M → Prop} {r : (Int32 × ev_M)} (h : F_X3_isName_167 a0  M = some r) (hq : Q 0 (.int r.1) r.2) : XP ev_prog b_X3_isName_167 [.ref a0, z1] [] M Q := by
  unfold F_X3_isName_167 at h
  refine x_aloadn0.mpr ?_
  refine (x_bipush (by decide)).mpr ?_
  refine (x_bipush (by decide)).mpr ?_
  refine (x_bipush (by decide)).mpr ?_
  refine x_iconst.mpr ?_
  refine x_iconst.mpr ?_
  obtain ⟨hc, h⟩ := gd h
  obtain ⟨r176_1, hz, h⟩ := Option.bind_eq_some_iff.mp h
  refine (y_virt6 ml_X3_isTyped (by show 6 ≤ 8; decide) hc.1 hc.2 rfl (by decide) (by show ¬ 8 < 0; decide)).mpr ?_
  refine sf_X3_isTyped hz ?_
  refine xk0.mpr ?_
  show XP ev_prog _ _ (.int r176_1.1 :: _) r176_1.2 Q
  obtain ⟨hc, h⟩ := gd h
  cases h
  exact (x_ireturnZ hc).mpr hq
def F_X3_isName_180 (a0 : Nat)  (M : ev_M) : Option (Int32 × ev_M) := (if ¬ a0 = 0 ∧ mK M a0 = 2 then (f_X3_isTyped a0 (iI (99)) (iI (111)) (iI (112)) (iI (121)) (iI (0)) M).bind fun r190_1 => (if r190_1.1 = 0 ∨ r190_1.1 = 1 then some (r190_1.1, r190_1.2) else none) else none)
theorem sF_X3_isName_180 {a0 : Nat}  {z1 : Value} {M : ev_M} {Q : Nat → Value → ev_M → Prop} {r : (Int32 × ev_M)} (h : F_X3_isName_180 a0  M = some r) (hq : Q 0 (.int r.1) r.2) : XP ev_prog b_X3_isName_180 [.ref a0, z1] [] M Q := by
  unfold F_X3_isName_180 at h
  refine x_aloadn0.mpr ?_
  refine (x_bipush (by decide)).mpr ?_
  refine (x_bipush (by decide)).mpr ?_
  refine (x_bipush (by decide)).mpr ?_
  refine (x_bipush (by decide)).mpr ?_
  refine x_iconst.mpr ?_
  obtain ⟨hc, h⟩ := gd h
  obtain ⟨r190_1, hz, h⟩ := Option.bind_eq_some_iff.mp h
  refine (y_virt6 ml_X3_isTyped (by show 6 ≤ 8; decide) hc.1 hc.2 rfl (by decide) (by show ¬ 8 < 0; decide)).mpr ?_
  refine sf_X3_isTyped hz ?_
  refine xk0.mpr ?_
  show XP ev_prog _ _ (.int r190_1.1 :: _) r190_1.2 Q
  obtain ⟨hc, h⟩ := gd h
  cases h
  exact (x_ireturnZ hc).mpr hq
def F_X3_isName_194 (a0 : Nat)  (M : ev_M) : Option (Int32 × ev_M) := (if ¬ a0 = 0 ∧ mK M a0 = 2 then (f_X3_isTyped a0 (iI (112)) (iI (105)) (iI (99)) (iI (107)) (iI (0)) M).bind fun r204_1 => (if r204_1.1 = 0 ∨ r204_1.1 = 1 then some (r204_1.1, r204_1.2) else none) else none)
theorem sF_X3_isName_194 {a0 : Nat}  {z1 : Value} {M : ev_M} {Q : Nat → Value → ev_M → Prop} {r : (Int32 × ev_M)} (h : F_X3_isName_194 a0  M = some r) (hq : Q 0 (.int r.1) r.2) : XP ev_prog b_X3_isName_194 [.ref a0, z1] [] M Q := by
  unfold F_X3_isName_194 at h
  refine x_aloadn0.mpr ?_
  refine (x_bipush (by decide)).mpr ?_
  refine (x_bipush (by decide)).mpr ?_
  refine (x_bipush (by decide)).mpr ?_
  refine (x_bipush (by decide)).mpr ?_
  refine x_iconst.mpr ?_
  obtain ⟨hc, h⟩ := gd h
  obtain ⟨r204_1, hz, h⟩ := Option.bind_eq_some_iff.mp h
  refine (y_virt6 ml_X3_isTyped (by show 6 ≤ 8; decide) hc.1 hc.2 rfl (by decide) (by show ¬ 8 < 0; decide)).mpr ?_
  refine sf_X3_isTyped hz ?_
  refine xk0.mpr ?_
  show XP ev_prog _ _ (.int r204_1.1 :: _) r204_1.2 Q
  obtain ⟨hc, h⟩ := gd h
  cases h
  exact (x_ireturnZ hc).mpr hq
def F_X3_isName_208 (a0 : Nat)  (M : ev_M) : Option (Int32 × ev_M) := (if ¬ a0 = 0 ∧ mK M a0 = 2 then (f_X3_isTyped a0 (iI (115)) (iI (117)) (iI (114)) (iI (101)) (iI (0)) M).bind fun r218_1 => (if r218_1.1 = 0 ∨ r218_1.1 = 1 then some (r218_1.1, r218_1.2) else none) else none)
theorem sF_X3_isName_208 {a0 : Nat}  {z1 : Value} {M : ev_M} {Q : Nat → Value → ev_M → Prop} {r : (Int32 × ev_M)} (h : F_X3_isName_208 a0  M = some r) (hq : Q 0 (.int r.1) r.2) : XP ev_prog b_X3_isName_208 [.ref a0, z1] [] M Q := by
  unfold F_X3_isName_208 at h
  refine x_aloadn0.mpr ?_
  refine (x_bipush (by decide)).mpr ?_
  refine (x_bipush (by decide)).mpr ?_
  refine (x_bipush (by decide)).mpr ?_
  refine (x_bipush (by decide)).mpr ?_
  refine x_iconst.mpr ?_
  obtain ⟨hc, h⟩ := gd h
  obtain ⟨r218_1, hz, h⟩ := Option.bind_eq_some_iff.mp h
  refine (y_virt6 ml_X3_isTyped (by show 6 ≤ 8; decide) hc.1 hc.2 rfl (by decide) (by show ¬ 8 < 0; decide)).mpr ?_
  refine sf_X3_isTyped hz ?_
  refine xk0.mpr ?_
  show XP ev_prog _ _ (.int r218_1.1 :: _) r218_1.2 Q
  obtain ⟨hc, h⟩ := gd h
  cases h
  exact (x_ireturnZ hc).mpr hq
def F_X3_isName_0 (a0 : Nat) (i1 : Int32)  (M : ev_M) : Option (Int32 × ev_M) := (if Int32.toInt i1 < 0 ∨ 11 < Int32.toInt i1 then F_X3_isName_222 a0  M else match (Int32.toInt i1 - 0).toNat with | 0 => F_X3_isName_64 a0  M | 1 => F_X3_isName_77 a0  M | 2 => F_X3_isName_90 a0  M | 3 => F_X3_isName_103 a0  M | 4 => F_X3_isName_116 a0  M | 5 => F_X3_isName_129 a0  M | 6 => F_X3_isName_142 a0  M | 7 => F_X3_isName_155 a0  M | 8 => F_X3_isName_167 a0  M | 9 => F_X3_isName_180 a0  M | 10 => F_X3_isName_194 a0  M | 11 => F_X3_isName_208 a0  M | _ + 12 => F_X3_isName_222 a0  M)
theorem sF_X3_isName_0 {a0 : Nat} {i1 : Int32}   {M : ev_M} {Q : Nat → Value → ev_M → Prop} {r : (Int32 × ev_M)} (h : F_X3_isName_0 a0 i1  M = some r) (hq : Q 0 (.int r.1) r.2) : XP ev_prog b_X3_isName_0 [.ref a0, .int i1] [] M Q := by
  unfold F_X3_isName_0 at h
  refine x_iloadn1.mpr ?_
  refine x_tsw.mpr ?_
  rcases ife h with ⟨hc, h⟩ | ⟨hc, h⟩
  · rw [if_pos hc, bk_X3_isName_222]
    exact sF_X3_isName_222 h hq
  · rw [if_neg hc]
    generalize (Int32.toInt i1 - 0).toNat = n at h ⊢
    match n, h with
    | 0, h =>
      show XP ev_prog (ev_prog.1 516160) _ _ M Q
      rw [bk_X3_isName_64]
      exact sF_X3_isName_64 h hq
    | 1, h =>
      show XP ev_prog (ev_prog.1 516173) _ _ M Q
      rw [bk_X3_isName_77]
      exact sF_X3_isName_77 h hq
    | 2, h =>
      show XP ev_prog (ev_prog.1 516186) _ _ M Q
      rw [bk_X3_isName_90]
      exact sF_X3_isName_90 h hq
    | 3, h =>
      show XP ev_prog (ev_prog.1 516199) _ _ M Q
      rw [bk_X3_isName_103]
      exact sF_X3_isName_103 h hq
    | 4, h =>
      show XP ev_prog (ev_prog.1 516212) _ _ M Q
      rw [bk_X3_isName_116]
      exact sF_X3_isName_116 h hq
    | 5, h =>
      show XP ev_prog (ev_prog.1 516225) _ _ M Q
      rw [bk_X3_isName_129]
      exact sF_X3_isName_129 h hq
    | 6, h =>
      show XP ev_prog (ev_prog.1 516238) _ _ M Q
      rw [bk_X3_isName_142]
      exact sF_X3_isName_142 h hq
    | 7, h =>
      show XP ev_prog (ev_prog.1 516251) _ _ M Q
      rw [bk_X3_isName_155]
      exact sF_X3_isName_155 h hq
    | 8, h =>
      show XP ev_prog (ev_prog.1 516263) _ _ M Q
      rw [bk_X3_isName_167]
      exact sF_X3_isName_167 h hq
    | 9, h =>
      show XP ev_prog (ev_prog.1 516276) _ _ M Q
      rw [bk_X3_isName_180]
      exact sF_X3_isName_180 h hq
    | 10, h =>
      show XP ev_prog (ev_prog.1 516290) _ _ M Q
      rw [bk_X3_isName_194]
      exact sF_X3_isName_194 h hq
    | 11, h =>
      show XP ev_prog (ev_prog.1 516304) _ _ M Q
      rw [bk_X3_isName_208]
      exact sF_X3_isName_208 h hq
    | n + 12, h =>
      show XP ev_prog (ev_prog.1 516318) _ _ _ Q
      rw [bk_X3_isName_222]
      exact sF_X3_isName_222 h hq
def f_X3_isName (a0 : Nat) (i1 : Int32) (M : ev_M) : Option (Int32 × ev_M) := F_X3_isName_0 a0 i1 M
theorem sf_X3_isName {a0 : Nat} {i1 : Int32} {M : ev_M} {Q : Nat → Value → ev_M → Prop} {r : (Int32 × ev_M)} (h : f_X3_isName a0 i1 M = some r) (hq : Q 0 (.int r.1) r.2) : CX ev_prog 126 [.ref a0, .int i1] M Q := by
  rw [cx_open (ls := [.ref a0, .int i1]) bk_X3_isName_0 rfl ml_X3_isName rfl]
  exact sF_X3_isName_0 h hq
def F_X3_statement_191_p1 (a0 : Nat)  (M : ev_M) : Option (Int32 × ev_M) := (if ([2] : List Nat).contains (mK M a0) = true then some (((mI M a0 7) - (iI (1))), M) else none)
theorem sF_X3_statement_191_p1 {a0 : Nat}  {z1 : Value} {z2 : Value} {z3 : Value} {M : ev_M} {Q : Nat → Value → ev_M → Prop} {r : (Int32 × ev_M)} (h : F_X3_statement_191_p1 a0  M = some r) (hq : Q 0 (.int r.1) r.2) : XP ev_prog [((.aload_n 0, 1, []), []), ((.getfield 171, 3, [0, 0, 7, 2]), []), ((.iconst 1, 1, []), []), ((.isub, 1, []), []), ((.ireturn, 1, []), [])] [.ref a0, z1, z2, z3] [] M Q := by
  unfold F_X3_statement_191_p1 at h
  refine x_aloadn0.mpr ?_
  obtain ⟨hc, h⟩ := gd h
  refine (x_getf0 hc).mpr ?_
  refine x_iconst.mpr ?_
  refine (x_isub).mpr ?_
  cases h
  exact x_ireturn.mpr hq
def F_X3_statement_191 (a0 : Nat)  (M : ev_M) : Option (Int32 × ev_M) := (if ([2] : List Nat).contains (mK M a0) = true then (if ([2] : List Nat).contains (mK M a0) = true then F_X3_statement_191_p1 a0  (wI M a0 7 ((mI M a0 7) + (iI (1)))) else none) else none)
theorem sF_X3_statement_191 {a0 : Nat}  {z1 : Value} {z2 : Value} {z3 : Value} {M : ev_M} {Q : Nat → Value → ev_M → Prop} {r : (Int32 × ev_M)} (h : F_X3_statement_191 a0  M = some r) (hq : Q 0 (.int r.1) r.2) : XP ev_prog b_X3_statement_191 [.ref a0, z1, z2, z3] [] M Q := by
  unfold F_X3_statement_191 at h
  refine x_aloadn0.mpr ?_
  refine x_dup_ref.mpr ?_
  obtain ⟨hc, h⟩ := gd h
  refine (x_getf0 hc).mpr ?_
  refine x_iconst.mpr ?_
  refine (x_iadd).mpr ?_
  obtain ⟨hc, h⟩ := gd h
  refine (x_putf0 hc).mpr ?_
  exact sF_X3_statement_191_p1 h hq
def F_X3_statement_163_p10 (k135 : Nat → Int32 → ev_M → Option (Int32 × ev_M)) (a0 : Nat) (i3 : Int32)  (M : ev_M) : Option (Int32 × ev_M) := k135 a0 (i3 + iI (1)) M
theorem sF_X3_statement_163_p10 {k135 : Nat → Int32 → ev_M → Option (Int32 × ev_M)} (hk135 : ∀ (a0 : Nat) (i3 : Int32) (M : ev_M) (r : (Int32 × ev_M)), k135 a0 i3 M = some r → ∀ (z1 : Value) (z2 : Value) (Q : Nat → Value → ev_M → Prop), Q 0 (.int r.1) r.2 → XP ev_prog b_X3_statement_135 [.ref a0, z1, z2, .int i3] [] M Q){a0 : Nat} {i3 : Int32}  {z1 : Value} {z2 : Value} {M : ev_M} {Q : Nat → Value → ev_M → Prop} {r : (Int32 × ev_M)} (h : F_X3_statement_163_p10 k135 a0 i3  M = some r) (hq : Q 0 (.int r.1) r.2) : XP ev_prog [((.iinc 3 1, 3, []), []), ((.goto (-53), 3, [520327]), [])] [.ref a0, z1, z2, .int i3] [] M Q := by
  unfold F_X3_statement_163_p10 at h
  refine x_iinc3.mpr ?_
  refine x_goto.mpr ?_
  rw [bk_X3_statement_135]
  exact hk135 _ _ _ _ _ h _ _ _ hq
def F_X3_statement_163_p6 (k135 : Nat → Int32 → ev_M → Option (Int32 × ev_M)) (a0 : Nat) (i3 : Int32)  (M : ev_M) : Option (Int32 × ev_M) := (if ([2] : List Nat).contains (mK M a0) = true then (if mK M (mA M a0 16) = 40 ∧ ev_in i3 (mN M (mA M a0 16)) = true then F_X3_statement_163_p10 k135 a0 i3  (wI M (mA M a0 16) (ev_ix i3) (iI (0))) else none) else none)
theorem sF_X3_statement_163_p6 {k135 : Nat → Int32 → ev_M → Option (Int32 × ev_M)} (hk135 : ∀ (a0 : Nat) (i3 : Int32) (M : ev_M) (r : (Int32 × ev_M)), k135 a0 i3 M = some r → ∀ (z1 : Value) (z2 : Value) (Q : Nat → Value → ev_M → Prop), Q 0 (.int r.1) r.2 → XP ev_prog b_X3_statement_135 [.ref a0, z1, z2, .int i3] [] M Q){a0 : Nat} {i3 : Int32}  {z1 : Value} {z2 : Value} {M : ev_M} {Q : Nat → Value → ev_M → Prop} {r : (Int32 × ev_M)} (h : F_X3_statement_163_p6 k135 a0 i3  M = some r) (hq : Q 0 (.int r.1) r.2) : XP ev_prog [((.aload_n 0, 1, []), []), ((.getfield 50, 3, [0, 4, 16, 2]), []), ((.iload_n 3, 1, []), []), ((.iconst 0, 1, []), []), ((.iastore, 1, []), []), ((.iinc 3 1, 3, []), []), ((.goto (-53), 3, [520327]), [])] [.ref a0, z1, z2, .int i3] [] M Q := by
  unfold F_X3_statement_163_p6 at h
  refine x_aloadn0.mpr ?_
  obtain ⟨hc, h⟩ := gd h
  refine (x_getf4 hc).mpr ?_
  refine x_iloadn3.mpr ?_
  refine x_iconst.mpr ?_
  obtain ⟨hc, h⟩ := gd h
  refine (x_iastore hc.1 hc.2).mpr ?_
  exact sF_X3_statement_163_p10 hk135 h hq
def F_X3_statement_163_p3 (k135 : Nat → Int32 → ev_M → Option (Int32 × ev_M)) (a0 : Nat) (i3 : Int32)  (M : ev_M) : Option (Int32 × ev_M) := (if ([2] : List Nat).contains (mK M a0) = true then (if mK M (mA M a0 15) = 40 ∧ ev_in i3 (mN M (mA M a0 15)) = true then F_X3_statement_163_p6 k135 a0 i3  (wI M (mA M a0 15) (ev_ix i3) (iI (0))) else none) else none)
theorem sF_X3_statement_163_p3 {k135 : Nat → Int32 → ev_M → Option (Int32 × ev_M)} (hk135 : ∀ (a0 : Nat) (i3 : Int32) (M : ev_M) (r : (Int32 × ev_M)), k135 a0 i3 M = some r → ∀ (z1 : Value) (z2 : Value) (Q : Nat → Value → ev_M → Prop), Q 0 (.int r.1) r.2 → XP ev_prog b_X3_statement_135 [.ref a0, z1, z2, .int i3] [] M Q){a0 : Nat} {i3 : Int32}  {z1 : Value} {z2 : Value} {M : ev_M} {Q : Nat → Value → ev_M → Prop} {r : (Int32 × ev_M)} (h : F_X3_statement_163_p3 k135 a0 i3  M = some r) (hq : Q 0 (.int r.1) r.2) : XP ev_prog [((.aload_n 0, 1, []), []), ((.getfield 47, 3, [0, 4, 15, 2]), []), ((.iload_n 3, 1, []), []), ((.iconst 0, 1, []), []), ((.iastore, 1, []), []), ((.aload_n 0, 1, []), []), ((.getfield 50, 3, [0, 4, 16, 2]), []), ((.iload_n 3, 1, []), []), ((.iconst 0, 1, []), []), ((.iastore, 1, []), []), ((.iinc 3 1, 3, []), []), ((.goto (-53), 3, [520327]), [])] [.ref a0, z1, z2, .int i3] [] M Q := by
  unfold F_X3_statement_163_p3 at h
  refine x_aloadn0.mpr ?_
  obtain ⟨hc, h⟩ := gd h
  refine (x_getf4 hc).mpr ?_
  refine x_iloadn3.mpr ?_
  refine x_iconst.mpr ?_
  obtain ⟨hc, h⟩ := gd h
  refine (x_iastore hc.1 hc.2).mpr ?_
  exact sF_X3_statement_163_p6 hk135 h hq
def F_X3_statement_163_p1 (k135 : Nat → Int32 → ev_M → Option (Int32 × ev_M)) (a0 : Nat) (i3 : Int32)  (M : ev_M) : Option (Int32 × ev_M) := (if ([2] : List Nat).contains (mK M a0) = true then (if mK M (mA M a0 14) = 40 ∧ ev_in i3 (mN M (mA M a0 14)) = true then F_X3_statement_163_p3 k135 a0 i3  (wI M (mA M a0 14) (ev_ix i3) (iI (0))) else none) else none)
theorem sF_X3_statement_163_p1 {k135 : Nat → Int32 → ev_M → Option (Int32 × ev_M)} (hk135 : ∀ (a0 : Nat) (i3 : Int32) (M : ev_M) (r : (Int32 × ev_M)), k135 a0 i3 M = some r → ∀ (z1 : Value) (z2 : Value) (Q : Nat → Value → ev_M → Prop), Q 0 (.int r.1) r.2 → XP ev_prog b_X3_statement_135 [.ref a0, z1, z2, .int i3] [] M Q){a0 : Nat} {i3 : Int32}  {z1 : Value} {z2 : Value} {M : ev_M} {Q : Nat → Value → ev_M → Prop} {r : (Int32 × ev_M)} (h : F_X3_statement_163_p1 k135 a0 i3  M = some r) (hq : Q 0 (.int r.1) r.2) : XP ev_prog [((.aload_n 0, 1, []), []), ((.getfield 44, 3, [0, 4, 14, 2]), []), ((.iload_n 3, 1, []), []), ((.iconst 0, 1, []), []), ((.iastore, 1, []), []), ((.aload_n 0, 1, []), []), ((.getfield 47, 3, [0, 4, 15, 2]), []), ((.iload_n 3, 1, []), []), ((.iconst 0, 1, []), []), ((.iastore, 1, []), []), ((.aload_n 0, 1, []), []), ((.getfield 50, 3, [0, 4, 16, 2]), []), ((.iload_n 3, 1, []), []), ((.iconst 0, 1, []), []), ((.iastore, 1, []), []), ((.iinc 3 1, 3, []), []), ((.goto (-53), 3, [520327]), [])] [.ref a0, z1, z2, .int i3] [] M Q := by
  unfold F_X3_statement_163_p1 at h
  refine x_aloadn0.mpr ?_
  obtain ⟨hc, h⟩ := gd h
  refine (x_getf4 hc).mpr ?_
  refine x_iloadn3.mpr ?_
  refine x_iconst.mpr ?_
  obtain ⟨hc, h⟩ := gd h
  refine (x_iastore hc.1 hc.2).mpr ?_
  exact sF_X3_statement_163_p3 hk135 h hq
def F_X3_statement_163 (k135 : Nat → Int32 → ev_M → Option (Int32 × ev_M)) (a0 : Nat) (i3 : Int32) (s0 : Int32) (s1 : Int32) (s2 : Nat) (M : ev_M) : Option (Int32 × ev_M) := (if mK M s2 = 40 ∧ ev_in s1 (mN M s2) = true then F_X3_statement_163_p1 k135 a0 i3  (wI M s2 (ev_ix s1) s0) else none)
theorem sF_X3_statement_163 {k135 : Nat → Int32 → ev_M → Option (Int32 × ev_M)} (hk135 : ∀ (a0 : Nat) (i3 : Int32) (M : ev_M) (r : (Int32 × ev_M)), k135 a0 i3 M = some r → ∀ (z1 : Value) (z2 : Value) (Q : Nat → Value → ev_M → Prop), Q 0 (.int r.1) r.2 → XP ev_prog b_X3_statement_135 [.ref a0, z1, z2, .int i3] [] M Q){a0 : Nat} {i3 : Int32} {s0 : Int32} {s1 : Int32} {s2 : Nat} {z1 : Value} {z2 : Value} {M : ev_M} {Q : Nat → Value → ev_M → Prop} {r : (Int32 × ev_M)} (h : F_X3_statement_163 k135 a0 i3 s0 s1 s2 M = some r) (hq : Q 0 (.int r.1) r.2) : XP ev_prog b_X3_statement_163 [.ref a0, z1, z2, .int i3] [.int s0, .int s1, .ref s2] M Q := by
  unfold F_X3_statement_163 at h
  refine x_kill.mpr ?_
  show XP ev_prog _ [.ref a0, jk, jk, .int i3] [.int s0, .int s1, .ref s2] M Q
  obtain ⟨hc, h⟩ := gd h
  refine (x_iastore hc.1 hc.2).mpr ?_
  exact sF_X3_statement_163_p1 hk135 h hq
def F_X3_statement_162 (k135 : Nat → Int32 → ev_M → Option (Int32 × ev_M)) (a0 : Nat) (i3 : Int32) (s0 : Int32) (s1 : Nat) (M : ev_M) : Option (Int32 × ev_M) := F_X3_statement_163 k135 a0 i3 (iI (-1)) s0 s1 M
theorem sF_X3_statement_162 {k135 : Nat → Int32 → ev_M → Option (Int32 × ev_M)} (hk135 : ∀ (a0 : Nat) (i3 : Int32) (M : ev_M) (r : (Int32 × ev_M)), k135 a0 i3 M = some r → ∀ (z1 : Value) (z2 : Value) (Q : Nat → Value → ev_M → Prop), Q 0 (.int r.1) r.2 → XP ev_prog b_X3_statement_135 [.ref a0, z1, z2, .int i3] [] M Q){a0 : Nat} {i3 : Int32} {s0 : Int32} {s1 : Nat} {z1 : Value} {z2 : Value} {M : ev_M} {Q : Nat → Value → ev_M → Prop} {r : (Int32 × ev_M)} (h : F_X3_statement_162 k135 a0 i3 s0 s1 M = some r) (hq : Q 0 (.int r.1) r.2) : XP ev_prog b_X3_statement_162 [.ref a0, z1, z2, .int i3] [.int s0, .ref s1] M Q := by
  unfold F_X3_statement_162 at h
  refine x_iconst.mpr ?_
  refine x_fall.mpr ?_
  rw [bk_X3_statement_163]
  exact sF_X3_statement_163 hk135 h hq
def F_X3_statement_135 (k135 : Nat → Int32 → ev_M → Option (Int32 × ev_M)) (a0 : Nat) (i3 : Int32)  (M : ev_M) : Option (Int32 × ev_M) := (if ([2] : List Nat).contains (mK M a0) = true then (if (((iI (3)) * (mI M a0 7)) + (iI (3))) ≤ i3 then F_X3_statement_191 a0  M else (if ([2] : List Nat).contains (mK M a0) = true then (if ¬ (iI (3)) = 0 then (if ¬ (i3 - i3 / (iI (3)) * (iI (3))) = 0 then F_X3_statement_162 k135 a0 i3 i3 (mA M a0 13) M else F_X3_statement_163 k135 a0 i3 (iI (0)) i3 (mA M a0 13) M) else none) else none)) else none)
theorem sF_X3_statement_135 {k135 : Nat → Int32 → ev_M → Option (Int32 × ev_M)} (hk135 : ∀ (a0 : Nat) (i3 : Int32) (M : ev_M) (r : (Int32 × ev_M)), k135 a0 i3 M = some r → ∀ (z1 : Value) (z2 : Value) (Q : Nat → Value → ev_M → Prop), Q 0 (.int r.1) r.2 → XP ev_prog b_X3_statement_135 [.ref a0, z1, z2, .int i3] [] M Q){a0 : Nat} {i3 : Int32}  {z1 : Value} {z2 : Value} {M : ev_M} {Q : Nat → Value → ev_M → Prop} {r : (Int32 × ev_M)} (h : F_X3_statement_135 k135 a0 i3  M = some r) (hq : Q 0 (.int r.1) r.2) : XP ev_prog b_X3_statement_135 [.ref a0, z1, z2, .int i3] [] M Q := by
  unfold F_X3_statement_135 at h
  refine x_kill.mpr ?_
  show XP ev_prog _ [.ref a0, jk, jk, .int i3] [] M Q
  refine x_iloadn3.mpr ?_
  refine x_iconst.mpr ?_
  refine x_aloadn0.mpr ?_
  obtain ⟨hc, h⟩ := gd h
  refine (x_getf0 hc).mpr ?_
  refine (x_imul).mpr ?_
  refine x_iconst.mpr ?_
  refine (x_iadd).mpr ?_
  rcases ife h with ⟨hc, h⟩ | ⟨hc, h⟩
  · rw [x_icmp_ge, if_pos hc, bk_X3_statement_191]
    exact sF_X3_statement_191 h hq
  · rw [x_icmp_ge, if_neg hc]
    refine x_aloadn0.mpr ?_
    obtain ⟨hc, h⟩ := gd h
    refine (x_getf4 hc).mpr ?_
    refine x_iloadn3.mpr ?_
    refine x_iloadn3.mpr ?_
    refine x_iconst.mpr ?_
    obtain ⟨hc, h⟩ := gd h
    refine (x_irem hc).mpr ?_
    rcases ife h with ⟨hc, h⟩ | ⟨hc, h⟩
    · rw [x_if_ne, if_pos hc, bk_X3_statement_162]
      exact sF_X3_statement_162 hk135 h hq
    · rw [x_if_ne, if_neg hc]
      refine x_iconst.mpr ?_
      refine x_goto.mpr ?_
      rw [bk_X3_statement_163]
      exact sF_X3_statement_163 hk135 h hq
def W_X3_statement_135 : Nat → Nat → Int32 → ev_M → Option (Int32 × ev_M)
  | 0 => fun _ => fun _ => fun _ => none
  | n + 1 => fun a0 i3 M => F_X3_statement_135 (W_X3_statement_135 n) a0 i3 M
theorem sW_X3_statement_135  : ∀ (n : Nat) {a0 : Nat} {i3 : Int32} {M : ev_M} {r : (Int32 × ev_M)} (h : W_X3_statement_135 n a0 i3 M = some r) {z1 : Value} {z2 : Value} {Q : Nat → Value → ev_M → Prop} (hq : Q 0 (.int r.1) r.2), XP ev_prog b_X3_statement_135 [.ref a0, z1, z2, .int i3] [] M Q := by
  intro n
  induction n with
  | zero => intro a0 i3 M r h; cases h
  | succ n ih => intro a0 i3 M r h z1 z2 Q hq; exact sF_X3_statement_135 (fun a0 i3 M r h z1 z2 Q hq => ih h hq) h hq
def F_X3_statement_61_p21 (a0 : Nat)  (M : ev_M) : Option (Int32 × ev_M) := (if ([2] : List Nat).contains (mK M a0) = true then W_X3_statement_135 5000 a0 ((iI (3)) * (mI M a0 7)) M else none)
theorem sF_X3_statement_61_p21 {a0 : Nat}  {z1 : Value} {z2 : Value} {z3 : Value} {M : ev_M} {Q : Nat → Value → ev_M → Prop} {r : (Int32 × ev_M)} (h : F_X3_statement_61_p21 a0  M = some r) (hq : Q 0 (.int r.1) r.2) : XP ev_prog [((.iconst 3, 1, []), []), ((.aload_n 0, 1, []), []), ((.getfield 171, 3, [0, 0, 7, 2]), []), ((.imul, 1, []), []), ((.istore_n 3, 1, []), []), ((.nop, 0, [0, 520327]), [])] [.ref a0, z1, z2, z3] [] M Q := by
  unfold F_X3_statement_61_p21 at h
  refine x_iconst.mpr ?_
  refine x_aloadn0.mpr ?_
  obtain ⟨hc, h⟩ := gd h
  refine (x_getf0 hc).mpr ?_
  refine (x_imul).mpr ?_
  refine x_istoren3.mpr ?_
  refine x_fall.mpr ?_
  rw [bk_X3_statement_135]
  exact sW_X3_statement_135 5000 h hq
def F_X3_statement_61_p15 (a0 : Nat)  (M : ev_M) : Option (Int32 × ev_M) := (if ([2] : List Nat).contains (mK M a0) = true then (if ([2] : List Nat).contains (mK M a0) = true then (if mK M (mA M a0 12) = 40 ∧ ev_in (mI M a0 7) (mN M (mA M a0 12)) = true then F_X3_statement_61_p21 a0  (wI M (mA M a0 12) (ev_ix (mI M a0 7)) (iI (-1))) else none) else none) else none)
theorem sF_X3_statement_61_p15 {a0 : Nat}  {z1 : Value} {z2 : Value} {z3 : Value} {M : ev_M} {Q : Nat → Value → ev_M → Prop} {r : (Int32 × ev_M)} (h : F_X3_statement_61_p15 a0  M = some r) (hq : Q 0 (.int r.1) r.2) : XP ev_prog [((.aload_n 0, 1, []), []), ((.getfield 38, 3, [0, 4, 12, 2]), []), ((.aload_n 0, 1, []), []), ((.getfield 171, 3, [0, 0, 7, 2]), []), ((.iconst (-1), 1, []), []), ((.iastore, 1, []), []), ((.iconst 3, 1, []), []), ((.aload_n 0, 1, []), []), ((.getfield 171, 3, [0, 0, 7, 2]), []), ((.imul, 1, []), []), ((.istore_n 3, 1, []), []), ((.nop, 0, [0, 520327]), [])] [.ref a0, z1, z2, z3] [] M Q := by
  unfold F_X3_statement_61_p15 at h
  refine x_aloadn0.mpr ?_
  obtain ⟨hc, h⟩ := gd h
  refine (x_getf4 hc).mpr ?_
  refine x_aloadn0.mpr ?_
  obtain ⟨hc, h⟩ := gd h
  refine (x_getf0 hc).mpr ?_
  refine x_iconst.mpr ?_
  obtain ⟨hc, h⟩ := gd h
  refine (x_iastore hc.1 hc.2).mpr ?_
  exact sF_X3_statement_61_p21 h hq
def F_X3_statement_61_p10 (a0 : Nat)  (M : ev_M) : Option (Int32 × ev_M) := (if ([2] : List Nat).contains (mK M a0) = true then (if ([2] : List Nat).contains (mK M a0) = true then (if mK M (mA M a0 11) = 40 ∧ ev_in (mI M a0 7) (mN M (mA M a0 11)) = true then F_X3_statement_61_p15 a0  (wI M (mA M a0 11) (ev_ix (mI M a0 7)) (iI (0))) else none) else none) else none)
theorem sF_X3_statement_61_p10 {a0 : Nat}  {z1 : Value} {z2 : Value} {z3 : Value} {M : ev_M} {Q : Nat → Value → ev_M → Prop} {r : (Int32 × ev_M)} (h : F_X3_statement_61_p10 a0  M = some r) (hq : Q 0 (.int r.1) r.2) : XP ev_prog [((.aload_n 0, 1, []), []), ((.getfield 35, 3, [0, 4, 11, 2]), []), ((.aload_n 0, 1, []), []), ((.getfield 171, 3, [0, 0, 7, 2]), []), ((.iconst 0, 1, []), []), ((.iastore, 1, []), []), ((.aload_n 0, 1, []), []), ((.getfield 38, 3, [0, 4, 12, 2]), []), ((.aload_n 0, 1, []), []), ((.getfield 171, 3, [0, 0, 7, 2]), []), ((.iconst (-1), 1, []), []), ((.iastore, 1, []), []), ((.iconst 3, 1, []), []), ((.aload_n 0, 1, []), []), ((.getfield 171, 3, [0, 0, 7, 2]), []), ((.imul, 1, []), []), ((.istore_n 3, 1, []), []), ((.nop, 0, [0, 520327]), [])] [.ref a0, z1, z2, z3] [] M Q := by
  unfold F_X3_statement_61_p10 at h
  refine x_aloadn0.mpr ?_
  obtain ⟨hc, h⟩ := gd h
  refine (x_getf4 hc).mpr ?_
  refine x_aloadn0.mpr ?_
  obtain ⟨hc, h⟩ := gd h
  refine (x_getf0 hc).mpr ?_
  refine x_iconst.mpr ?_
  obtain ⟨hc, h⟩ := gd h
  refine (x_iastore hc.1 hc.2).mpr ?_
  exact sF_X3_statement_61_p15 h hq
def F_X3_statement_61_p6 (a0 : Nat)  (M : ev_M) : Option (Int32 × ev_M) := (if ([2] : List Nat).contains (mK M a0) = true then (if ([2] : List Nat).contains (mK M a0) = true then (if mK M (mA M a0 10) = 40 ∧ ev_in (mI M a0 7) (mN M (mA M a0 10)) = true then F_X3_statement_61_p10 a0  (wI M (mA M a0 10) (ev_ix (mI M a0 7)) (iI (1))) else none) else none) else none)
theorem sF_X3_statement_61_p6 {a0 : Nat}  {z1 : Value} {z2 : Value} {z3 : Value} {M : ev_M} {Q : Nat → Value → ev_M → Prop} {r : (Int32 × ev_M)} (h : F_X3_statement_61_p6 a0  M = some r) (hq : Q 0 (.int r.1) r.2) : XP ev_prog [((.aload_n 0, 1, []), []), ((.getfield 32, 3, [0, 4, 10, 2]), []), ((.aload_n 0, 1, []), []), ((.getfield 171, 3, [0, 0, 7, 2]), []), ((.iconst 1, 1, []), []), ((.iastore, 1, []), []), ((.aload_n 0, 1, []), []), ((.getfield 35, 3, [0, 4, 11, 2]), []), ((.aload_n 0, 1, []), []), ((.getfield 171, 3, [0, 0, 7, 2]), []), ((.iconst 0, 1, []), []), ((.iastore, 1, []), []), ((.aload_n 0, 1, []), []), ((.getfield 38, 3, [0, 4, 12, 2]), []), ((.aload_n 0, 1, []), []), ((.getfield 171, 3, [0, 0, 7, 2]), []), ((.iconst (-1), 1, []), []), ((.iastore, 1, []), []), ((.iconst 3, 1, []), []), ((.aload_n 0, 1, []), []), ((.getfield 171, 3, [0, 0, 7, 2]), []), ((.imul, 1, []), []), ((.istore_n 3, 1, []), []), ((.nop, 0, [0, 520327]), [])] [.ref a0, z1, z2, z3] [] M Q := by
  unfold F_X3_statement_61_p6 at h
  refine x_aloadn0.mpr ?_
  obtain ⟨hc, h⟩ := gd h
  refine (x_getf4 hc).mpr ?_
  refine x_aloadn0.mpr ?_
  obtain ⟨hc, h⟩ := gd h
  refine (x_getf0 hc).mpr ?_
  refine x_iconst.mpr ?_
  obtain ⟨hc, h⟩ := gd h
  refine (x_iastore hc.1 hc.2).mpr ?_
  exact sF_X3_statement_61_p10 h hq
def F_X3_statement_61_p3 (a0 : Nat) (i1 : Int32)  (M : ev_M) : Option (Int32 × ev_M) := (if ([2] : List Nat).contains (mK M a0) = true then (if ([2] : List Nat).contains (mK M a0) = true then (if mK M (mA M a0 9) = 40 ∧ ev_in (mI M a0 7) (mN M (mA M a0 9)) = true then F_X3_statement_61_p6 a0  (wI M (mA M a0 9) (ev_ix (mI M a0 7)) i1) else none) else none) else none)
theorem sF_X3_statement_61_p3 {a0 : Nat} {i1 : Int32}  {z2 : Value} {z3 : Value} {M : ev_M} {Q : Nat → Value → ev_M → Prop} {r : (Int32 × ev_M)} (h : F_X3_statement_61_p3 a0 i1  M = some r) (hq : Q 0 (.int r.1) r.2) : XP ev_prog [((.aload_n 0, 1, []), []), ((.getfield 29, 3, [0, 4, 9, 2]), []), ((.aload_n 0, 1, []), []), ((.getfield 171, 3, [0, 0, 7, 2]), []), ((.iload_n 1, 1, []), []), ((.iastore, 1, []), []), ((.aload_n 0, 1, []), []), ((.getfield 32, 3, [0, 4, 10, 2]), []), ((.aload_n 0, 1, []), []), ((.getfield 171, 3, [0, 0, 7, 2]), []), ((.iconst 1, 1, []), []), ((.iastore, 1, []), []), ((.aload_n 0, 1, []), []), ((.getfield 35, 3, [0, 4, 11, 2]), []), ((.aload_n 0, 1, []), []), ((.getfield 171, 3, [0, 0, 7, 2]), []), ((.iconst 0, 1, []), []), ((.iastore, 1, []), []), ((.aload_n 0, 1, []), []), ((.getfield 38, 3, [0, 4, 12, 2]), []), ((.aload_n 0, 1, []), []), ((.getfield 171, 3, [0, 0, 7, 2]), []), ((.iconst (-1), 1, []), []), ((.iastore, 1, []), []), ((.iconst 3, 1, []), []), ((.aload_n 0, 1, []), []), ((.getfield 171, 3, [0, 0, 7, 2]), []), ((.imul, 1, []), []), ((.istore_n 3, 1, []), []), ((.nop, 0, [0, 520327]), [])] [.ref a0, .int i1, z2, z3] [] M Q := by
  unfold F_X3_statement_61_p3 at h
  refine x_aloadn0.mpr ?_
  obtain ⟨hc, h⟩ := gd h
  refine (x_getf4 hc).mpr ?_
  refine x_aloadn0.mpr ?_
  obtain ⟨hc, h⟩ := gd h
  refine (x_getf0 hc).mpr ?_
  refine x_iloadn1.mpr ?_
  obtain ⟨hc, h⟩ := gd h
  refine (x_iastore hc.1 hc.2).mpr ?_
  exact sF_X3_statement_61_p6 h hq
def F_X3_statement_61_p1 (a0 : Nat) (i1 : Int32) (i2 : Int32)  (M : ev_M) : Option (Int32 × ev_M) := (if ([2] : List Nat).contains (mK M a0) = true then (if ¬ a0 = 0 ∧ mK M a0 = 2 then (f_X3_logs a0 (iI (1)) (mI M a0 7) (iI (0)) (iI (0)) (iI (0)) M).bind fun r75_1 => (if ([2] : List Nat).contains (mK r75_1 a0) = true then (if ([2] : List Nat).contains (mK r75_1 a0) = true then (if mK r75_1 (mA r75_1 a0 8) = 40 ∧ ev_in (mI r75_1 a0 7) (mN r75_1 (mA r75_1 a0 8)) = true then F_X3_statement_61_p3 a0 i1  (wI r75_1 (mA r75_1 a0 8) (ev_ix (mI r75_1 a0 7)) i2) else none) else none) else none) else none) else none)
theorem sF_X3_statement_61_p1 {a0 : Nat} {i1 : Int32} {i2 : Int32}  {z3 : Value} {M : ev_M} {Q : Nat → Value → ev_M → Prop} {r : (Int32 × ev_M)} (h : F_X3_statement_61_p1 a0 i1 i2  M = some r) (hq : Q 0 (.int r.1) r.2) : XP ev_prog [((.aload_n 0, 1, []), []), ((.iconst 1, 1, []), []), ((.aload_n 0, 1, []), []), ((.getfield 171, 3, [0, 0, 7, 2]), []), ((.iconst 0, 1, []), []), ((.iconst 0, 1, []), []), ((.iconst 0, 1, []), []), ((.invokevirtual 157, 3, [6, 2, 86]), []), ((.aload_n 0, 1, []), []), ((.getfield 26, 3, [0, 4, 8, 2]), []), ((.aload_n 0, 1, []), []), ((.getfield 171, 3, [0, 0, 7, 2]), []), ((.iload_n 2, 1, []), []), ((.iastore, 1, []), []), ((.aload_n 0, 1, []), []), ((.getfield 29, 3, [0, 4, 9, 2]), []), ((.aload_n 0, 1, []), []), ((.getfield 171, 3, [0, 0, 7, 2]), []), ((.iload_n 1, 1, []), []), ((.iastore, 1, []), []), ((.aload_n 0, 1, []), []), ((.getfield 32, 3, [0, 4, 10, 2]), []), ((.aload_n 0, 1, []), []), ((.getfield 171, 3, [0, 0, 7, 2]), []), ((.iconst 1, 1, []), []), ((.iastore, 1, []), []), ((.aload_n 0, 1, []), []), ((.getfield 35, 3, [0, 4, 11, 2]), []), ((.aload_n 0, 1, []), []), ((.getfield 171, 3, [0, 0, 7, 2]), []), ((.iconst 0, 1, []), []), ((.iastore, 1, []), []), ((.aload_n 0, 1, []), []), ((.getfield 38, 3, [0, 4, 12, 2]), []), ((.aload_n 0, 1, []), []), ((.getfield 171, 3, [0, 0, 7, 2]), []), ((.iconst (-1), 1, []), []), ((.iastore, 1, []), []), ((.iconst 3, 1, []), []), ((.aload_n 0, 1, []), []), ((.getfield 171, 3, [0, 0, 7, 2]), []), ((.imul, 1, []), []), ((.istore_n 3, 1, []), []), ((.nop, 0, [0, 520327]), [])] [.ref a0, .int i1, .int i2, z3] [] M Q := by
  unfold F_X3_statement_61_p1 at h
  refine x_aloadn0.mpr ?_
  refine x_iconst.mpr ?_
  refine x_aloadn0.mpr ?_
  obtain ⟨hc, h⟩ := gd h
  refine (x_getf0 hc).mpr ?_
  refine x_iconst.mpr ?_
  refine x_iconst.mpr ?_
  refine x_iconst.mpr ?_
  obtain ⟨hc, h⟩ := gd h
  obtain ⟨r75_1, hz, h⟩ := Option.bind_eq_some_iff.mp h
  refine (y_virt6 ml_X3_logs (by show 6 ≤ 7; decide) hc.1 hc.2 rfl (by decide) (by show ¬ 8 < 0; decide)).mpr ?_
  refine sf_X3_logs hz ?_
  refine xk0.mpr ?_
  show XP ev_prog _ _ _ r75_1 Q
  refine x_aloadn0.mpr ?_
  obtain ⟨hc, h⟩ := gd h
  refine (x_getf4 hc).mpr ?_
  refine x_aloadn0.mpr ?_
  obtain ⟨hc, h⟩ := gd h
  refine (x_getf0 hc).mpr ?_
  refine x_iloadn2.mpr ?_
  obtain ⟨hc, h⟩ := gd h
  refine (x_iastore hc.1 hc.2).mpr ?_
  exact sF_X3_statement_61_p3 h hq
def F_X3_statement_61 (a0 : Nat) (i1 : Int32) (i2 : Int32)  (M : ev_M) : Option (Int32 × ev_M) := (if ([2] : List Nat).contains (mK M a0) = true then F_X3_statement_61_p1 a0 i1 i2  (wI M a0 20 (iI (0))) else none)
theorem sF_X3_statement_61 {a0 : Nat} {i1 : Int32} {i2 : Int32}  {z3 : Value} {M : ev_M} {Q : Nat → Value → ev_M → Prop} {r : (Int32 × ev_M)} (h : F_X3_statement_61 a0 i1 i2  M = some r) (hq : Q 0 (.int r.1) r.2) : XP ev_prog b_X3_statement_61 [.ref a0, .int i1, .int i2, z3] [] M Q := by
  unfold F_X3_statement_61 at h
  refine x_aloadn0.mpr ?_
  refine x_iconst.mpr ?_
  obtain ⟨hc, h⟩ := gd h
  refine (x_putf0 hc).mpr ?_
  exact sF_X3_statement_61_p1 h hq
def F_X3_statement_50 (a0 : Nat) (i1 : Int32) (i2 : Int32)  (M : ev_M) : Option (Int32 × ev_M) := (if ([2] : List Nat).contains (mK M a0) = true then (if ¬ (mI M a0 7) = (iI (5)) then F_X3_statement_61 a0 i1 i2  M else some ((iI (-4)), M)) else none)
theorem sF_X3_statement_50 {a0 : Nat} {i1 : Int32} {i2 : Int32}  {z3 : Value} {M : ev_M} {Q : Nat → Value → ev_M → Prop} {r : (Int32 × ev_M)} (h : F_X3_statement_50 a0 i1 i2  M = some r) (hq : Q 0 (.int r.1) r.2) : XP ev_prog b_X3_statement_50 [.ref a0, .int i1, .int i2, z3] [] M Q := by
  unfold F_X3_statement_50 at h
  refine x_aloadn0.mpr ?_
  obtain ⟨hc, h⟩ := gd h
  refine (x_getf0 hc).mpr ?_
  refine x_iconst.mpr ?_
  rcases ife h with ⟨hc, h⟩ | ⟨hc, h⟩
  · rw [x_icmp_ne, if_pos hc, bk_X3_statement_61]
    exact sF_X3_statement_61 h hq
  · rw [x_icmp_ne, if_neg hc]
    refine (x_bipush (by decide)).mpr ?_
    cases h
    exact x_ireturn.mpr hq
def F_X3_statement_42 (a0 : Nat) (i1 : Int32) (i2 : Int32)  (M : ev_M) : Option (Int32 × ev_M) := (if ¬ i2 = (iI (-1)) then F_X3_statement_50 a0 i1 i2  M else some ((iI (-3)), M))
theorem sF_X3_statement_42 {a0 : Nat} {i1 : Int32} {i2 : Int32}  {z3 : Value} {M : ev_M} {Q : Nat → Value → ev_M → Prop} {r : (Int32 × ev_M)} (h : F_X3_statement_42 a0 i1 i2  M = some r) (hq : Q 0 (.int r.1) r.2) : XP ev_prog b_X3_statement_42 [.ref a0, .int i1, .int i2, z3] [] M Q := by
  unfold F_X3_statement_42 at h
  refine x_iloadn2.mpr ?_
  refine x_iconst.mpr ?_
  rcases ife h with ⟨hc, h⟩ | ⟨hc, h⟩
  · rw [x_icmp_ne, if_pos hc, bk_X3_statement_50]
    exact sF_X3_statement_50 h hq
  · rw [x_icmp_ne, if_neg hc]
    refine (x_bipush (by decide)).mpr ?_
    cases h
    exact x_ireturn.mpr hq
def F_X3_statement_35 (k16 : Nat → Int32 → Int32 → Int32 → ev_M → Option (Int32 × ev_M)) (a0 : Nat) (i1 : Int32) (i3 : Int32) (s0 : Int32) (M : ev_M) : Option (Int32 × ev_M) := k16 a0 i1 s0 (i3 + iI (1)) M
theorem sF_X3_statement_35 {k16 : Nat → Int32 → Int32 → Int32 → ev_M → Option (Int32 × ev_M)} (hk16 : ∀ (a0 : Nat) (i1 : Int32) (i2 : Int32) (i3 : Int32) (M : ev_M) (r : (Int32 × ev_M)), k16 a0 i1 i2 i3 M = some r → ∀ (Q : Nat → Value → ev_M → Prop), Q 0 (.int r.1) r.2 → XP ev_prog b_X3_statement_16 [.ref a0, .int i1, .int i2, .int i3] [] M Q){a0 : Nat} {i1 : Int32} {i3 : Int32} {s0 : Int32} {z2 : Value} {M : ev_M} {Q : Nat → Value → ev_M → Prop} {r : (Int32 × ev_M)} (h : F_X3_statement_35 k16 a0 i1 i3 s0 M = some r) (hq : Q 0 (.int r.1) r.2) : XP ev_prog b_X3_statement_35 [.ref a0, .int i1, z2, .int i3] [.int s0] M Q := by
  unfold F_X3_statement_35 at h
  refine x_kill.mpr ?_
  show XP ev_prog _ [.ref a0, .int i1, jk, .int i3] [.int s0] M Q
  refine x_istoren2.mpr ?_
  refine x_iinc3.mpr ?_
  refine x_goto.mpr ?_
  rw [bk_X3_statement_16]
  exact hk16 _ _ _ _ _ _ _ h _ hq
def F_X3_statement_34 (k16 : Nat → Int32 → Int32 → Int32 → ev_M → Option (Int32 × ev_M)) (a0 : Nat) (i1 : Int32) (i2 : Int32) (i3 : Int32)  (M : ev_M) : Option (Int32 × ev_M) := F_X3_statement_35 k16 a0 i1 i3 i2 M
theorem sF_X3_statement_34 {k16 : Nat → Int32 → Int32 → Int32 → ev_M → Option (Int32 × ev_M)} (hk16 : ∀ (a0 : Nat) (i1 : Int32) (i2 : Int32) (i3 : Int32) (M : ev_M) (r : (Int32 × ev_M)), k16 a0 i1 i2 i3 M = some r → ∀ (Q : Nat → Value → ev_M → Prop), Q 0 (.int r.1) r.2 → XP ev_prog b_X3_statement_16 [.ref a0, .int i1, .int i2, .int i3] [] M Q){a0 : Nat} {i1 : Int32} {i2 : Int32} {i3 : Int32}   {M : ev_M} {Q : Nat → Value → ev_M → Prop} {r : (Int32 × ev_M)} (h : F_X3_statement_34 k16 a0 i1 i2 i3  M = some r) (hq : Q 0 (.int r.1) r.2) : XP ev_prog b_X3_statement_34 [.ref a0, .int i1, .int i2, .int i3] [] M Q := by
  unfold F_X3_statement_34 at h
  refine x_iloadn2.mpr ?_
  refine x_fall.mpr ?_
  rw [bk_X3_statement_35]
  exact sF_X3_statement_35 hk16 h hq
def F_X3_statement_16 (k16 : Nat → Int32 → Int32 → Int32 → ev_M → Option (Int32 × ev_M)) (a0 : Nat) (i1 : Int32) (i2 : Int32) (i3 : Int32)  (M : ev_M) : Option (Int32 × ev_M) := (if (iI (13)) ≤ i3 then F_X3_statement_42 a0 i1 i2  M else (if ¬ a0 = 0 ∧ mK M a0 = 2 then (f_X3_isName a0 i3 M).bind fun r24_1 => (if r24_1.1 = 0 then F_X3_statement_34 k16 a0 i1 i2 i3  r24_1.2 else F_X3_statement_35 k16 a0 i1 i3 i3 r24_1.2) else none))
theorem sF_X3_statement_16 {k16 : Nat → Int32 → Int32 → Int32 → ev_M → Option (Int32 × ev_M)} (hk16 : ∀ (a0 : Nat) (i1 : Int32) (i2 : Int32) (i3 : Int32) (M : ev_M) (r : (Int32 × ev_M)), k16 a0 i1 i2 i3 M = some r → ∀ (Q : Nat → Value → ev_M → Prop), Q 0 (.int r.1) r.2 → XP ev_prog b_X3_statement_16 [.ref a0, .int i1, .int i2, .int i3] [] M Q){a0 : Nat} {i1 : Int32} {i2 : Int32} {i3 : Int32}   {M : ev_M} {Q : Nat → Value → ev_M → Prop} {r : (Int32 × ev_M)} (h : F_X3_statement_16 k16 a0 i1 i2 i3  M = some r) (hq : Q 0 (.int r.1) r.2) : XP ev_prog b_X3_statement_16 [.ref a0, .int i1, .int i2, .int i3] [] M Q := by
  unfold F_X3_statement_16 at h
  refine x_iloadn3.mpr ?_
  refine (x_bipush (by decide)).mpr ?_
  rcases ife h with ⟨hc, h⟩ | ⟨hc, h⟩
  · rw [x_icmp_ge, if_pos hc, bk_X3_statement_42]
    exact sF_X3_statement_42 h hq
  · rw [x_icmp_ge, if_neg hc]
    refine x_aloadn0.mpr ?_
    refine x_iloadn3.mpr ?_
    obtain ⟨hc, h⟩ := gd h
    obtain ⟨r24_1, hz, h⟩ := Option.bind_eq_some_iff.mp h
    refine (y_virt2 ml_X3_isName (by show 2 ≤ 2; decide) hc.1 hc.2 rfl (by decide) (by show ¬ 8 < 0; decide)).mpr ?_
    refine sf_X3_isName hz ?_
    refine xk0.mpr ?_
    show XP ev_prog _ _ (.int r24_1.1 :: _) r24_1.2 Q
    rcases ife h with ⟨hc, h⟩ | ⟨hc, h⟩
    · rw [x_if_eq, if_pos hc, bk_X3_statement_34]
      exact sF_X3_statement_34 hk16 h hq
    · rw [x_if_eq, if_neg hc]
      refine x_iloadn3.mpr ?_
      refine x_goto.mpr ?_
      rw [bk_X3_statement_35]
      exact sF_X3_statement_35 hk16 h hq
def W_X3_statement_16 : Nat → Nat → Int32 → Int32 → Int32 → ev_M → Option (Int32 × ev_M)
  | 0 => fun _ => fun _ => fun _ => fun _ => fun _ => none
  | n + 1 => fun a0 i1 i2 i3 M => F_X3_statement_16 (W_X3_statement_16 n) a0 i1 i2 i3 M
theorem sW_X3_statement_16  : ∀ (n : Nat) {a0 : Nat} {i1 : Int32} {i2 : Int32} {i3 : Int32} {M : ev_M} {r : (Int32 × ev_M)} (h : W_X3_statement_16 n a0 i1 i2 i3 M = some r)  {Q : Nat → Value → ev_M → Prop} (hq : Q 0 (.int r.1) r.2), XP ev_prog b_X3_statement_16 [.ref a0, .int i1, .int i2, .int i3] [] M Q := by
  intro n
  induction n with
  | zero => intro a0 i1 i2 i3 M r h; cases h
  | succ n ih => intro a0 i1 i2 i3 M r h  Q hq; exact sF_X3_statement_16 (fun a0 i1 i2 i3 M r h  Q hq => ih h hq) h hq
def F_X3_statement_12 (a0 : Nat) (i1 : Int32)  (M : ev_M) : Option (Int32 × ev_M) := W_X3_statement_16 5000 a0 i1 (iI (-1)) (iI (0)) M
theorem sF_X3_statement_12 {a0 : Nat} {i1 : Int32}  {z2 : Value} {z3 : Value} {M : ev_M} {Q : Nat → Value → ev_M → Prop} {r : (Int32 × ev_M)} (h : F_X3_statement_12 a0 i1  M = some r) (hq : Q 0 (.int r.1) r.2) : XP ev_prog b_X3_statement_12 [.ref a0, .int i1, z2, z3] [] M Q := by
  unfold F_X3_statement_12 at h
  refine x_iconst.mpr ?_
  refine x_istoren2.mpr ?_
  refine x_iconst.mpr ?_
  refine x_istoren3.mpr ?_
  refine x_fall.mpr ?_
  rw [bk_X3_statement_16]
  exact sW_X3_statement_16 5000 h hq
def F_X3_statement_0 (a0 : Nat) (i1 : Int32)  (M : ev_M) : Option (Int32 × ev_M) := (f_X3_in i1 (iI (1)) (iI (5)) M).bind fun r3_1 => (if ¬ r3_1.1 = 0 then F_X3_statement_12 a0 i1  r3_1.2 else some ((iI (-2)), r3_1.2))
theorem sF_X3_statement_0 {a0 : Nat} {i1 : Int32}  {z2 : Value} {z3 : Value} {M : ev_M} {Q : Nat → Value → ev_M → Prop} {r : (Int32 × ev_M)} (h : F_X3_statement_0 a0 i1  M = some r) (hq : Q 0 (.int r.1) r.2) : XP ev_prog b_X3_statement_0 [.ref a0, .int i1, z2, z3] [] M Q := by
  unfold F_X3_statement_0 at h
  refine x_iloadn1.mpr ?_
  refine x_iconst.mpr ?_
  refine x_iconst.mpr ?_
  obtain ⟨r3_1, hz, h⟩ := Option.bind_eq_some_iff.mp h
  refine (y_stat3 ml_X3_in (by show 3 ≤ 3; decide) (by decide) (by decide) (by show ¬ 8 < 0; decide)).mpr ?_
  refine sf_X3_in hz ?_
  refine xk0.mpr ?_
  show XP ev_prog _ _ (.int r3_1.1 :: _) r3_1.2 Q
  rcases ife h with ⟨hc, h⟩ | ⟨hc, h⟩
  · rw [x_if_ne, if_pos hc, bk_X3_statement_12]
    exact sF_X3_statement_12 h hq
  · rw [x_if_ne, if_neg hc]
    refine (x_bipush (by decide)).mpr ?_
    cases h
    exact x_ireturn.mpr hq
def f_X3_statement (a0 : Nat) (i1 : Int32) (M : ev_M) : Option (Int32 × ev_M) := F_X3_statement_0 a0 i1 M
theorem sf_X3_statement {a0 : Nat} {i1 : Int32} {M : ev_M} {Q : Nat → Value → ev_M → Prop} {r : (Int32 × ev_M)} (h : f_X3_statement a0 i1 M = some r) (hq : Q 0 (.int r.1) r.2) : CX ev_prog 127 [.ref a0, .int i1] M Q := by
  rw [cx_open (ls := [.ref a0, .int i1, jk, jk]) bk_X3_statement_0 rfl ml_X3_statement rfl]
  exact sF_X3_statement_0 h hq
def F_X3_isStatement_0 (a0 : Nat) (i1 : Int32)  (M : ev_M) : Option (Int32 × ev_M) := (if ([2] : List Nat).contains (mK M a0) = true then (f_X3_in i1 (iI (0)) ((mI M a0 7) - (iI (1))) M).bind fun r8_1 => (if r8_1.1 = 0 ∨ r8_1.1 = 1 then some (r8_1.1, r8_1.2) else none) else none)
theorem sF_X3_isStatement_0 {a0 : Nat} {i1 : Int32}   {M : ev_M} {Q : Nat → Value → ev_M → Prop} {r : (Int32 × ev_M)} (h : F_X3_isStatement_0 a0 i1  M = some r) (hq : Q 0 (.int r.1) r.2) : XP ev_prog b_X3_isStatement_0 [.ref a0, .int i1] [] M Q := by
  unfold F_X3_isStatement_0 at h
  refine x_iloadn1.mpr ?_
  refine x_iconst.mpr ?_
  refine x_aloadn0.mpr ?_
  obtain ⟨hc, h⟩ := gd h
  refine (x_getf0 hc).mpr ?_
  refine x_iconst.mpr ?_
  refine (x_isub).mpr ?_
  obtain ⟨r8_1, hz, h⟩ := Option.bind_eq_some_iff.mp h
  refine (y_stat3 ml_X3_in (by show 3 ≤ 3; decide) (by decide) (by decide) (by show ¬ 8 < 0; decide)).mpr ?_
  refine sf_X3_in hz ?_
  refine xk0.mpr ?_
  show XP ev_prog _ _ (.int r8_1.1 :: _) r8_1.2 Q
  obtain ⟨hc, h⟩ := gd h
  cases h
  exact (x_ireturnZ hc).mpr hq
def f_X3_isStatement (a0 : Nat) (i1 : Int32) (M : ev_M) : Option (Int32 × ev_M) := F_X3_isStatement_0 a0 i1 M
theorem sf_X3_isStatement {a0 : Nat} {i1 : Int32} {M : ev_M} {Q : Nat → Value → ev_M → Prop} {r : (Int32 × ev_M)} (h : f_X3_isStatement a0 i1 M = some r) (hq : Q 0 (.int r.1) r.2) : CX ev_prog 136 [.ref a0, .int i1] M Q := by
  rw [cx_open (ls := [.ref a0, .int i1]) bk_X3_isStatement_0 rfl ml_X3_isStatement rfl]
  exact sF_X3_isStatement_0 h hq
def F_X3_refer_34   (M : ev_M) : Option (Int32 × ev_M) := some ((iI (-2)), M)
theorem sF_X3_refer_34   {z0 : Value} {z1 : Value} {z2 : Value} {z3 : Value} {z4 : Value} {M : ev_M} {Q : Nat → Value → ev_M → Prop} {r : (Int32 × ev_M)} (h : F_X3_refer_34   M = some r) (hq : Q 0 (.int r.1) r.2) : XP ev_prog b_X3_refer_34 [z0, z1, z2, z3, z4] [] M Q := by
  unfold F_X3_refer_34 at h
  refine x_kill.mpr ?_
  show XP ev_prog _ [jk, jk, jk, jk, jk] [] M Q
  refine (x_bipush (by decide)).mpr ?_
  cases h
  exact x_ireturn.mpr hq
def F_X3_refer_37_p1 (i4 : Int32)  (M : ev_M) : Option (Int32 × ev_M) := some (i4, M)
theorem sF_X3_refer_37_p1 {i4 : Int32}  {z0 : Value} {z1 : Value} {z2 : Value} {z3 : Value} {M : ev_M} {Q : Nat → Value → ev_M → Prop} {r : (Int32 × ev_M)} (h : F_X3_refer_37_p1 i4  M = some r) (hq : Q 0 (.int r.1) r.2) : XP ev_prog [((.iload 4, 2, []), []), ((.ireturn, 1, []), [])] [z0, z1, z2, z3, .int i4] [] M Q := by
  unfold F_X3_refer_37_p1 at h
  refine x_iload4.mpr ?_
  cases h
  exact x_ireturn.mpr hq
def F_X3_refer_37 (a0 : Nat) (i1 : Int32) (i2 : Int32) (i3 : Int32)  (M : ev_M) : Option (Int32 × ev_M) := (if ([2] : List Nat).contains (mK M a0) = true then (if ev_isI (mK M (mA M a0 13)) = true ∧ ev_in (((iI (3)) * i1) + i2) (mN M (mA M a0 13)) = true then (if ¬ a0 = 0 ∧ mK M a0 = 2 then (f_X3_logs a0 (iI (2)) (((iI (3)) * i1) + i2) (mI M (mA M a0 13) (ev_ix (((iI (3)) * i1) + i2))) (iI (0)) (iI (0)) M).bind fun r60_1 => (if ([2] : List Nat).contains (mK r60_1 a0) = true then (if mK r60_1 (mA r60_1 a0 13) = 40 ∧ ev_in (((iI (3)) * i1) + i2) (mN r60_1 (mA r60_1 a0 13)) = true then F_X3_refer_37_p1 (mI M (mA M a0 13) (ev_ix (((iI (3)) * i1) + i2)))  (wI r60_1 (mA r60_1 a0 13) (ev_ix (((iI (3)) * i1) + i2)) i3) else none) else none) else none) else none) else none)
theorem sF_X3_refer_37 {a0 : Nat} {i1 : Int32} {i2 : Int32} {i3 : Int32}  {z4 : Value} {M : ev_M} {Q : Nat → Value → ev_M → Prop} {r : (Int32 × ev_M)} (h : F_X3_refer_37 a0 i1 i2 i3  M = some r) (hq : Q 0 (.int r.1) r.2) : XP ev_prog b_X3_refer_37 [.ref a0, .int i1, .int i2, .int i3, z4] [] M Q := by
  unfold F_X3_refer_37 at h
  refine x_aloadn0.mpr ?_
  obtain ⟨hc, h⟩ := gd h
  refine (x_getf4 hc).mpr ?_
  refine x_iconst.mpr ?_
  refine x_iloadn1.mpr ?_
  refine (x_imul).mpr ?_
  refine x_iloadn2.mpr ?_
  refine (x_iadd).mpr ?_
  obtain ⟨hc, h⟩ := gd h
  refine (x_iaload hc.1 hc.2).mpr ?_
  refine x_istore4.mpr ?_
  refine x_aloadn0.mpr ?_
  refine x_iconst.mpr ?_
  refine x_iconst.mpr ?_
  refine x_iloadn1.mpr ?_
  refine (x_imul).mpr ?_
  refine x_iloadn2.mpr ?_
  refine (x_iadd).mpr ?_
  refine x_iload4.mpr ?_
  refine x_iconst.mpr ?_
  refine x_iconst.mpr ?_
  obtain ⟨hc, h⟩ := gd h
  obtain ⟨r60_1, hz, h⟩ := Option.bind_eq_some_iff.mp h
  refine (y_virt6 ml_X3_logs (by show 6 ≤ 7; decide) hc.1 hc.2 rfl (by decide) (by show ¬ 8 < 0; decide)).mpr ?_
  refine sf_X3_logs hz ?_
  refine xk0.mpr ?_
  show XP ev_prog _ _ _ r60_1 Q
  refine x_aloadn0.mpr ?_
  obtain ⟨hc, h⟩ := gd h
  refine (x_getf4 hc).mpr ?_
  refine x_iconst.mpr ?_
  refine x_iloadn1.mpr ?_
  refine (x_imul).mpr ?_
  refine x_iloadn2.mpr ?_
  refine (x_iadd).mpr ?_
  refine x_iloadn3.mpr ?_
  obtain ⟨hc, h⟩ := gd h
  refine (x_iastore hc.1 hc.2).mpr ?_
  exact sF_X3_refer_37_p1 h hq
def F_X3_refer_27 (a0 : Nat) (i1 : Int32) (i2 : Int32) (i3 : Int32) (s0 : Int32) (s1 : Int32) (M : ev_M) : Option (Int32 × ev_M) := (f_X3_in s1 s0 (iI (5)) M).bind fun r28_1 => (if ¬ r28_1.1 = 0 then F_X3_refer_37 a0 i1 i2 i3  r28_1.2 else F_X3_refer_34   r28_1.2)
theorem sF_X3_refer_27 {a0 : Nat} {i1 : Int32} {i2 : Int32} {i3 : Int32} {s0 : Int32} {s1 : Int32} {z4 : Value} {M : ev_M} {Q : Nat → Value → ev_M → Prop} {r : (Int32 × ev_M)} (h : F_X3_refer_27 a0 i1 i2 i3 s0 s1 M = some r) (hq : Q 0 (.int r.1) r.2) : XP ev_prog b_X3_refer_27 [.ref a0, .int i1, .int i2, .int i3, z4] [.int s0, .int s1] M Q := by
  unfold F_X3_refer_27 at h
  refine x_kill.mpr ?_
  show XP ev_prog _ [.ref a0, .int i1, .int i2, .int i3, jk] [.int s0, .int s1] M Q
  refine x_iconst.mpr ?_
  obtain ⟨r28_1, hz, h⟩ := Option.bind_eq_some_iff.mp h
  refine (y_stat3 ml_X3_in (by show 3 ≤ 3; decide) (by decide) (by decide) (by show ¬ 8 < 0; decide)).mpr ?_
  refine sf_X3_in hz ?_
  refine xk0.mpr ?_
  show XP ev_prog _ _ (.int r28_1.1 :: _) r28_1.2 Q
  rcases ife h with ⟨hc, h⟩ | ⟨hc, h⟩
  · rw [x_if_ne, if_pos hc, bk_X3_refer_37]
    exact sF_X3_refer_37 h hq
  · rw [x_if_ne, if_neg hc]
    refine x_fall.mpr ?_
    rw [bk_X3_refer_34]
    exact sF_X3_refer_34 h hq
def F_X3_refer_26 (a0 : Nat) (i1 : Int32) (i2 : Int32) (i3 : Int32) (s0 : Int32) (M : ev_M) : Option (Int32 × ev_M) := F_X3_refer_27 a0 i1 i2 i3 (iI (-1)) s0 M
theorem sF_X3_refer_26 {a0 : Nat} {i1 : Int32} {i2 : Int32} {i3 : Int32} {s0 : Int32} {z4 : Value} {M : ev_M} {Q : Nat → Value → ev_M → Prop} {r : (Int32 × ev_M)} (h : F_X3_refer_26 a0 i1 i2 i3 s0 M = some r) (hq : Q 0 (.int r.1) r.2) : XP ev_prog b_X3_refer_26 [.ref a0, .int i1, .int i2, .int i3, z4] [.int s0] M Q := by
  unfold F_X3_refer_26 at h
  refine x_iconst.mpr ?_
  refine x_fall.mpr ?_
  rw [bk_X3_refer_27]
  exact sF_X3_refer_27 h hq
def F_X3_refer_0 (a0 : Nat) (i1 : Int32) (i2 : Int32) (i3 : Int32)  (M : ev_M) : Option (Int32 × ev_M) := (if ¬ a0 = 0 ∧ mK M a0 = 2 then (f_X3_isStatement a0 i1 M).bind fun r2_1 => (if r2_1.1 = 0 then F_X3_refer_34   r2_1.2 else (f_X3_in i2 (iI (0)) (iI (2)) r2_1.2).bind fun r11_1 => (if r11_1.1 = 0 then F_X3_refer_34   r11_1.2 else (if ¬ i2 = 0 then F_X3_refer_26 a0 i1 i2 i3 i3 r11_1.2 else F_X3_refer_27 a0 i1 i2 i3 (iI (0)) i3 r11_1.2))) else none)
theorem sF_X3_refer_0 {a0 : Nat} {i1 : Int32} {i2 : Int32} {i3 : Int32}  {z4 : Value} {M : ev_M} {Q : Nat → Value → ev_M → Prop} {r : (Int32 × ev_M)} (h : F_X3_refer_0 a0 i1 i2 i3  M = some r) (hq : Q 0 (.int r.1) r.2) : XP ev_prog b_X3_refer_0 [.ref a0, .int i1, .int i2, .int i3, z4] [] M Q := by
  unfold F_X3_refer_0 at h
  refine x_aloadn0.mpr ?_
  refine x_iloadn1.mpr ?_
  obtain ⟨hc, h⟩ := gd h
  obtain ⟨r2_1, hz, h⟩ := Option.bind_eq_some_iff.mp h
  refine (y_virt2 ml_X3_isStatement (by show 2 ≤ 2; decide) hc.1 hc.2 rfl (by decide) (by show ¬ 8 < 0; decide)).mpr ?_
  refine sf_X3_isStatement hz ?_
  refine xk0.mpr ?_
  show XP ev_prog _ _ (.int r2_1.1 :: _) r2_1.2 Q
  rcases ife h with ⟨hc, h⟩ | ⟨hc, h⟩
  · rw [x_if_eq, if_pos hc, bk_X3_refer_34]
    exact sF_X3_refer_34 h hq
  · rw [x_if_eq, if_neg hc]
    refine x_iloadn2.mpr ?_
    refine x_iconst.mpr ?_
    refine x_iconst.mpr ?_
    obtain ⟨r11_1, hz, h⟩ := Option.bind_eq_some_iff.mp h
    refine (y_stat3 ml_X3_in (by show 3 ≤ 3; decide) (by decide) (by decide) (by show ¬ 8 < 0; decide)).mpr ?_
    refine sf_X3_in hz ?_
    refine xk0.mpr ?_
    show XP ev_prog _ _ (.int r11_1.1 :: _) r11_1.2 Q
    rcases ife h with ⟨hc, h⟩ | ⟨hc, h⟩
    · rw [x_if_eq, if_pos hc, bk_X3_refer_34]
      exact sF_X3_refer_34 h hq
    · rw [x_if_eq, if_neg hc]
      refine x_iloadn3.mpr ?_
      refine x_iloadn2.mpr ?_
      rcases ife h with ⟨hc, h⟩ | ⟨hc, h⟩
      · rw [x_if_ne, if_pos hc, bk_X3_refer_26]
        exact sF_X3_refer_26 h hq
      · rw [x_if_ne, if_neg hc]
        refine x_iconst.mpr ?_
        refine x_goto.mpr ?_
        rw [bk_X3_refer_27]
        exact sF_X3_refer_27 h hq
def f_X3_refer (a0 : Nat) (i1 : Int32) (i2 : Int32) (i3 : Int32) (M : ev_M) : Option (Int32 × ev_M) := F_X3_refer_0 a0 i1 i2 i3 M
theorem sf_X3_refer {a0 : Nat} {i1 : Int32} {i2 : Int32} {i3 : Int32} {M : ev_M} {Q : Nat → Value → ev_M → Prop} {r : (Int32 × ev_M)} (h : f_X3_refer a0 i1 i2 i3 M = some r) (hq : Q 0 (.int r.1) r.2) : CX ev_prog 137 [.ref a0, .int i1, .int i2, .int i3] M Q := by
  rw [cx_open (ls := [.ref a0, .int i1, .int i2, .int i3, jk]) bk_X3_refer_0 rfl ml_X3_refer rfl]
  exact sF_X3_refer_0 h hq
def F_X3_place_52   (M : ev_M) : Option (Int32 × ev_M) := some ((iI (-2)), M)
theorem sF_X3_place_52   {z0 : Value} {z1 : Value} {z2 : Value} {z3 : Value} {z4 : Value} {z5 : Value} {z6 : Value} {M : ev_M} {Q : Nat → Value → ev_M → Prop} {r : (Int32 × ev_M)} (h : F_X3_place_52   M = some r) (hq : Q 0 (.int r.1) r.2) : XP ev_prog b_X3_place_52 [z0, z1, z2, z3, z4, z5, z6] [] M Q := by
  unfold F_X3_place_52 at h
  refine x_kill.mpr ?_
  show XP ev_prog _ [jk, jk, jk, jk, jk, jk, jk] [] M Q
  refine (x_bipush (by decide)).mpr ?_
  cases h
  exact x_ireturn.mpr hq
def F_X3_place_55_p6   (M : ev_M) : Option (Int32 × ev_M) := some ((iI (1)), M)
theorem sF_X3_place_55_p6   {z0 : Value} {z1 : Value} {z2 : Value} {z3 : Value} {z4 : Value} {z5 : Value} {z6 : Value} {M : ev_M} {Q : Nat → Value → ev_M → Prop} {r : (Int32 × ev_M)} (h : F_X3_place_55_p6   M = some r) (hq : Q 0 (.int r.1) r.2) : XP ev_prog [((.iconst 1, 1, []), []), ((.ireturn, 1, []), [])] [z0, z1, z2, z3, z4, z5, z6] [] M Q := by
  unfold F_X3_place_55_p6 at h
  refine x_iconst.mpr ?_
  cases h
  exact x_ireturn.mpr hq
def F_X3_place_55_p3 (a0 : Nat) (i5 : Int32) (i6 : Int32)  (M : ev_M) : Option (Int32 × ev_M) := (if ([2] : List Nat).contains (mK M a0) = true then (if mK M (mA M a0 16) = 40 ∧ ev_in i6 (mN M (mA M a0 16)) = true then F_X3_place_55_p6   (wI M (mA M a0 16) (ev_ix i6) i5) else none) else none)
theorem sF_X3_place_55_p3 {a0 : Nat} {i5 : Int32} {i6 : Int32}  {z1 : Value} {z2 : Value} {z3 : Value} {z4 : Value} {M : ev_M} {Q : Nat → Value → ev_M → Prop} {r : (Int32 × ev_M)} (h : F_X3_place_55_p3 a0 i5 i6  M = some r) (hq : Q 0 (.int r.1) r.2) : XP ev_prog [((.aload_n 0, 1, []), []), ((.getfield 50, 3, [0, 4, 16, 2]), []), ((.iload 6, 2, []), []), ((.iload 5, 2, []), []), ((.iastore, 1, []), []), ((.iconst 1, 1, []), []), ((.ireturn, 1, []), [])] [.ref a0, z1, z2, z3, z4, .int i5, .int i6] [] M Q := by
  unfold F_X3_place_55_p3 at h
  refine x_aloadn0.mpr ?_
  obtain ⟨hc, h⟩ := gd h
  refine (x_getf4 hc).mpr ?_
  refine x_iload6.mpr ?_
  refine x_iload5.mpr ?_
  obtain ⟨hc, h⟩ := gd h
  refine (x_iastore hc.1 hc.2).mpr ?_
  exact sF_X3_place_55_p6 h hq
def F_X3_place_55_p1 (a0 : Nat) (i4 : Int32) (i5 : Int32) (i6 : Int32)  (M : ev_M) : Option (Int32 × ev_M) := (if ([2] : List Nat).contains (mK M a0) = true then (if mK M (mA M a0 15) = 40 ∧ ev_in i6 (mN M (mA M a0 15)) = true then F_X3_place_55_p3 a0 i5 i6  (wI M (mA M a0 15) (ev_ix i6) i4) else none) else none)
theorem sF_X3_place_55_p1 {a0 : Nat} {i4 : Int32} {i5 : Int32} {i6 : Int32}  {z1 : Value} {z2 : Value} {z3 : Value} {M : ev_M} {Q : Nat → Value → ev_M → Prop} {r : (Int32 × ev_M)} (h : F_X3_place_55_p1 a0 i4 i5 i6  M = some r) (hq : Q 0 (.int r.1) r.2) : XP ev_prog [((.aload_n 0, 1, []), []), ((.getfield 47, 3, [0, 4, 15, 2]), []), ((.iload 6, 2, []), []), ((.iload 4, 2, []), []), ((.iastore, 1, []), []), ((.aload_n 0, 1, []), []), ((.getfield 50, 3, [0, 4, 16, 2]), []), ((.iload 6, 2, []), []), ((.iload 5, 2, []), []), ((.iastore, 1, []), []), ((.iconst 1, 1, []), []), ((.ireturn, 1, []), [])] [.ref a0, z1, z2, z3, .int i4, .int i5, .int i6] [] M Q := by
  unfold F_X3_place_55_p1 at h
  refine x_aloadn0.mpr ?_
  obtain ⟨hc, h⟩ := gd h
  refine (x_getf4 hc).mpr ?_
  refine x_iload6.mpr ?_
  refine x_iload4.mpr ?_
  obtain ⟨hc, h⟩ := gd h
  refine (x_iastore hc.1 hc.2).mpr ?_
  exact sF_X3_place_55_p3 h hq
def F_X3_place_55 (a0 : Nat) (i1 : Int32) (i2 : Int32) (i3 : Int32) (i4 : Int32) (i5 : Int32)  (M : ev_M) : Option (Int32 × ev_M) := (if ([2] : List Nat).contains (mK M a0) = true then (if ev_isI (mK M (mA M a0 14)) = true ∧ ev_in (((iI (3)) * i1) + i2) (mN M (mA M a0 14)) = true then (if ([2] : List Nat).contains (mK M a0) = true then (if ev_isI (mK M (mA M a0 15)) = true ∧ ev_in (((iI (3)) * i1) + i2) (mN M (mA M a0 15)) = true then (if ([2] : List Nat).contains (mK M a0) = true then (if ev_isI (mK M (mA M a0 16)) = true ∧ ev_in (((iI (3)) * i1) + i2) (mN M (mA M a0 16)) = true then (if ¬ a0 = 0 ∧ mK M a0 = 2 then (f_X3_logs a0 (iI (3)) (((iI (3)) * i1) + i2) (mI M (mA M a0 14) (ev_ix (((iI (3)) * i1) + i2))) (mI M (mA M a0 15) (ev_ix (((iI (3)) * i1) + i2))) (mI M (mA M a0 16) (ev_ix (((iI (3)) * i1) + i2))) M).bind fun r87_1 => (if ([2] : List Nat).contains (mK r87_1 a0) = true then (if mK r87_1 (mA r87_1 a0 14) = 40 ∧ ev_in (((iI (3)) * i1) + i2) (mN r87_1 (mA r87_1 a0 14)) = true then F_X3_place_55_p1 a0 i4 i5 (((iI (3)) * i1) + i2)  (wI r87_1 (mA r87_1 a0 14) (ev_ix (((iI (3)) * i1) + i2)) i3) else none) else none) else none) else none) else none) else none) else none) else none) else none)
theorem sF_X3_place_55 {a0 : Nat} {i1 : Int32} {i2 : Int32} {i3 : Int32} {i4 : Int32} {i5 : Int32}  {z6 : Value} {M : ev_M} {Q : Nat → Value → ev_M → Prop} {r : (Int32 × ev_M)} (h : F_X3_place_55 a0 i1 i2 i3 i4 i5  M = some r) (hq : Q 0 (.int r.1) r.2) : XP ev_prog b_X3_place_55 [.ref a0, .int i1, .int i2, .int i3, .int i4, .int i5, z6] [] M Q := by
  unfold F_X3_place_55 at h
  refine x_iconst.mpr ?_
  refine x_iloadn1.mpr ?_
  refine (x_imul).mpr ?_
  refine x_iloadn2.mpr ?_
  refine (x_iadd).mpr ?_
  refine x_istore6.mpr ?_
  refine x_aloadn0.mpr ?_
  refine x_iconst.mpr ?_
  refine x_iload6.mpr ?_
  refine x_aloadn0.mpr ?_
  obtain ⟨hc, h⟩ := gd h
  refine (x_getf4 hc).mpr ?_
  refine x_iload6.mpr ?_
  obtain ⟨hc, h⟩ := gd h
  refine (x_iaload hc.1 hc.2).mpr ?_
  refine x_aloadn0.mpr ?_
  obtain ⟨hc, h⟩ := gd h
  refine (x_getf4 hc).mpr ?_
  refine x_iload6.mpr ?_
  obtain ⟨hc, h⟩ := gd h
  refine (x_iaload hc.1 hc.2).mpr ?_
  refine x_aloadn0.mpr ?_
  obtain ⟨hc, h⟩ := gd h
  refine (x_getf4 hc).mpr ?_
  refine x_iload6.mpr ?_
  obtain ⟨hc, h⟩ := gd h
  refine (x_iaload hc.1 hc.2).mpr ?_
  obtain ⟨hc, h⟩ := gd h
  obtain ⟨r87_1, hz, h⟩ := Option.bind_eq_some_iff.mp h
  refine (y_virt6 ml_X3_logs (by show 6 ≤ 7; decide) hc.1 hc.2 rfl (by decide) (by show ¬ 8 < 0; decide)).mpr ?_
  refine sf_X3_logs hz ?_
  refine xk0.mpr ?_
  show XP ev_prog _ _ _ r87_1 Q
  refine x_aloadn0.mpr ?_
  obtain ⟨hc, h⟩ := gd h
  refine (x_getf4 hc).mpr ?_
  refine x_iload6.mpr ?_
  refine x_iloadn3.mpr ?_
  obtain ⟨hc, h⟩ := gd h
  refine (x_iastore hc.1 hc.2).mpr ?_
  exact sF_X3_place_55_p1 h hq
def F_X3_place_0 (a0 : Nat) (i1 : Int32) (i2 : Int32) (i3 : Int32) (i4 : Int32) (i5 : Int32)  (M : ev_M) : Option (Int32 × ev_M) := (if ¬ a0 = 0 ∧ mK M a0 = 2 then (f_X3_isStatement a0 i1 M).bind fun r2_1 => (if r2_1.1 = 0 then F_X3_place_52   r2_1.2 else (f_X3_in i2 (iI (0)) (iI (2)) r2_1.2).bind fun r11_1 => (if r11_1.1 = 0 then F_X3_place_52   r11_1.2 else (f_X3_in i3 (iI (-60)) (iI (60)) r11_1.2).bind fun r22_1 => (if r22_1.1 = 0 then F_X3_place_52   r22_1.2 else (f_X3_in i4 (iI (-6)) (iI (6)) r22_1.2).bind fun r34_1 => (if r34_1.1 = 0 then F_X3_place_52   r34_1.2 else (f_X3_in i5 (iI (-6)) (iI (6)) r34_1.2).bind fun r46_1 => (if ¬ r46_1.1 = 0 then F_X3_place_55 a0 i1 i2 i3 i4 i5  r46_1.2 else F_X3_place_52   r46_1.2))))) else none)
theorem sF_X3_place_0 {a0 : Nat} {i1 : Int32} {i2 : Int32} {i3 : Int32} {i4 : Int32} {i5 : Int32}  {z6 : Value} {M : ev_M} {Q : Nat → Value → ev_M → Prop} {r : (Int32 × ev_M)} (h : F_X3_place_0 a0 i1 i2 i3 i4 i5  M = some r) (hq : Q 0 (.int r.1) r.2) : XP ev_prog b_X3_place_0 [.ref a0, .int i1, .int i2, .int i3, .int i4, .int i5, z6] [] M Q := by
  unfold F_X3_place_0 at h
  refine x_aloadn0.mpr ?_
  refine x_iloadn1.mpr ?_
  obtain ⟨hc, h⟩ := gd h
  obtain ⟨r2_1, hz, h⟩ := Option.bind_eq_some_iff.mp h
  refine (y_virt2 ml_X3_isStatement (by show 2 ≤ 2; decide) hc.1 hc.2 rfl (by decide) (by show ¬ 8 < 0; decide)).mpr ?_
  refine sf_X3_isStatement hz ?_
  refine xk0.mpr ?_
  show XP ev_prog _ _ (.int r2_1.1 :: _) r2_1.2 Q
  rcases ife h with ⟨hc, h⟩ | ⟨hc, h⟩
  · rw [x_if_eq, if_pos hc, bk_X3_place_52]
    exact sF_X3_place_52 h hq
  · rw [x_if_eq, if_neg hc]
    refine x_iloadn2.mpr ?_
    refine x_iconst.mpr ?_
    refine x_iconst.mpr ?_
    obtain ⟨r11_1, hz, h⟩ := Option.bind_eq_some_iff.mp h
    refine (y_stat3 ml_X3_in (by show 3 ≤ 3; decide) (by decide) (by decide) (by show ¬ 8 < 0; decide)).mpr ?_
    refine sf_X3_in hz ?_
    refine xk0.mpr ?_
    show XP ev_prog _ _ (.int r11_1.1 :: _) r11_1.2 Q
    rcases ife h with ⟨hc, h⟩ | ⟨hc, h⟩
    · rw [x_if_eq, if_pos hc, bk_X3_place_52]
      exact sF_X3_place_52 h hq
    · rw [x_if_eq, if_neg hc]
      refine x_iloadn3.mpr ?_
      refine (x_bipush (by decide)).mpr ?_
      refine (x_bipush (by decide)).mpr ?_
      obtain ⟨r22_1, hz, h⟩ := Option.bind_eq_some_iff.mp h
      refine (y_stat3 ml_X3_in (by show 3 ≤ 3; decide) (by decide) (by decide) (by show ¬ 8 < 0; decide)).mpr ?_
      refine sf_X3_in hz ?_
      refine xk0.mpr ?_
      show XP ev_prog _ _ (.int r22_1.1 :: _) r22_1.2 Q
      rcases ife h with ⟨hc, h⟩ | ⟨hc, h⟩
      · rw [x_if_eq, if_pos hc, bk_X3_place_52]
        exact sF_X3_place_52 h hq
      · rw [x_if_eq, if_neg hc]
        refine x_iload4.mpr ?_
        refine (x_bipush (by decide)).mpr ?_
        refine (x_bipush (by decide)).mpr ?_
        obtain ⟨r34_1, hz, h⟩ := Option.bind_eq_some_iff.mp h
        refine (y_stat3 ml_X3_in (by show 3 ≤ 3; decide) (by decide) (by decide) (by show ¬ 8 < 0; decide)).mpr ?_
        refine sf_X3_in hz ?_
        refine xk0.mpr ?_
        show XP ev_prog _ _ (.int r34_1.1 :: _) r34_1.2 Q
        rcases ife h with ⟨hc, h⟩ | ⟨hc, h⟩
        · rw [x_if_eq, if_pos hc, bk_X3_place_52]
          exact sF_X3_place_52 h hq
        · rw [x_if_eq, if_neg hc]
          refine x_iload5.mpr ?_
          refine (x_bipush (by decide)).mpr ?_
          refine (x_bipush (by decide)).mpr ?_
          obtain ⟨r46_1, hz, h⟩ := Option.bind_eq_some_iff.mp h
          refine (y_stat3 ml_X3_in (by show 3 ≤ 3; decide) (by decide) (by decide) (by show ¬ 8 < 0; decide)).mpr ?_
          refine sf_X3_in hz ?_
          refine xk0.mpr ?_
          show XP ev_prog _ _ (.int r46_1.1 :: _) r46_1.2 Q
          rcases ife h with ⟨hc, h⟩ | ⟨hc, h⟩
          · rw [x_if_ne, if_pos hc, bk_X3_place_55]
            exact sF_X3_place_55 h hq
          · rw [x_if_ne, if_neg hc]
            refine x_fall.mpr ?_
            rw [bk_X3_place_52]
            exact sF_X3_place_52 h hq
def f_X3_place (a0 : Nat) (i1 : Int32) (i2 : Int32) (i3 : Int32) (i4 : Int32) (i5 : Int32) (M : ev_M) : Option (Int32 × ev_M) := F_X3_place_0 a0 i1 i2 i3 i4 i5 M
theorem sf_X3_place {a0 : Nat} {i1 : Int32} {i2 : Int32} {i3 : Int32} {i4 : Int32} {i5 : Int32} {M : ev_M} {Q : Nat → Value → ev_M → Prop} {r : (Int32 × ev_M)} (h : f_X3_place a0 i1 i2 i3 i4 i5 M = some r) (hq : Q 0 (.int r.1) r.2) : CX ev_prog 140 [.ref a0, .int i1, .int i2, .int i3, .int i4, .int i5] M Q := by
  rw [cx_open (ls := [.ref a0, .int i1, .int i2, .int i3, .int i4, .int i5, jk]) bk_X3_place_0 rfl ml_X3_place rfl]
  exact sF_X3_place_0 h hq
def F_X3_guard_29   (M : ev_M) : Option (Int32 × ev_M) := some ((iI (-2)), M)
theorem sF_X3_guard_29   {z0 : Value} {z1 : Value} {z2 : Value} {z3 : Value} {M : ev_M} {Q : Nat → Value → ev_M → Prop} {r : (Int32 × ev_M)} (h : F_X3_guard_29   M = some r) (hq : Q 0 (.int r.1) r.2) : XP ev_prog b_X3_guard_29 [z0, z1, z2, z3] [] M Q := by
  unfold F_X3_guard_29 at h
  refine x_kill.mpr ?_
  show XP ev_prog _ [jk, jk, jk, jk] [] M Q
  refine (x_bipush (by decide)).mpr ?_
  cases h
  exact x_ireturn.mpr hq
def F_X3_guard_32_p3   (M : ev_M) : Option (Int32 × ev_M) := some ((iI (1)), M)
theorem sF_X3_guard_32_p3   {z0 : Value} {z1 : Value} {z2 : Value} {z3 : Value} {M : ev_M} {Q : Nat → Value → ev_M → Prop} {r : (Int32 × ev_M)} (h : F_X3_guard_32_p3   M = some r) (hq : Q 0 (.int r.1) r.2) : XP ev_prog [((.iconst 1, 1, []), []), ((.ireturn, 1, []), [])] [z0, z1, z2, z3] [] M Q := by
  unfold F_X3_guard_32_p3 at h
  refine x_iconst.mpr ?_
  cases h
  exact x_ireturn.mpr hq
def F_X3_guard_32_p1 (a0 : Nat) (i1 : Int32) (i3 : Int32)  (M : ev_M) : Option (Int32 × ev_M) := (if ([2] : List Nat).contains (mK M a0) = true then (if mK M (mA M a0 11) = 40 ∧ ev_in i1 (mN M (mA M a0 11)) = true then F_X3_guard_32_p3   (wI M (mA M a0 11) (ev_ix i1) i3) else none) else none)
theorem sF_X3_guard_32_p1 {a0 : Nat} {i1 : Int32} {i3 : Int32}  {z2 : Value} {M : ev_M} {Q : Nat → Value → ev_M → Prop} {r : (Int32 × ev_M)} (h : F_X3_guard_32_p1 a0 i1 i3  M = some r) (hq : Q 0 (.int r.1) r.2) : XP ev_prog [((.aload_n 0, 1, []), []), ((.getfield 35, 3, [0, 4, 11, 2]), []), ((.iload_n 1, 1, []), []), ((.iload_n 3, 1, []), []), ((.iastore, 1, []), []), ((.iconst 1, 1, []), []), ((.ireturn, 1, []), [])] [.ref a0, .int i1, z2, .int i3] [] M Q := by
  unfold F_X3_guard_32_p1 at h
  refine x_aloadn0.mpr ?_
  obtain ⟨hc, h⟩ := gd h
  refine (x_getf4 hc).mpr ?_
  refine x_iloadn1.mpr ?_
  refine x_iloadn3.mpr ?_
  obtain ⟨hc, h⟩ := gd h
  refine (x_iastore hc.1 hc.2).mpr ?_
  exact sF_X3_guard_32_p3 h hq
def F_X3_guard_32 (a0 : Nat) (i1 : Int32) (i2 : Int32) (i3 : Int32)  (M : ev_M) : Option (Int32 × ev_M) := (if ([2] : List Nat).contains (mK M a0) = true then (if ev_isI (mK M (mA M a0 10)) = true ∧ ev_in i1 (mN M (mA M a0 10)) = true then (if ([2] : List Nat).contains (mK M a0) = true then (if ev_isI (mK M (mA M a0 11)) = true ∧ ev_in i1 (mN M (mA M a0 11)) = true then (if ¬ a0 = 0 ∧ mK M a0 = 2 then (f_X3_logs a0 (iI (4)) i1 (mI M (mA M a0 10) (ev_ix i1)) (mI M (mA M a0 11) (ev_ix i1)) (iI (0)) M).bind fun r48_1 => (if ([2] : List Nat).contains (mK r48_1 a0) = true then (if mK r48_1 (mA r48_1 a0 10) = 40 ∧ ev_in i1 (mN r48_1 (mA r48_1 a0 10)) = true then F_X3_guard_32_p1 a0 i1 i3  (wI r48_1 (mA r48_1 a0 10) (ev_ix i1) i2) else none) else none) else none) else none) else none) else none) else none)
theorem sF_X3_guard_32 {a0 : Nat} {i1 : Int32} {i2 : Int32} {i3 : Int32}   {M : ev_M} {Q : Nat → Value → ev_M → Prop} {r : (Int32 × ev_M)} (h : F_X3_guard_32 a0 i1 i2 i3  M = some r) (hq : Q 0 (.int r.1) r.2) : XP ev_prog b_X3_guard_32 [.ref a0, .int i1, .int i2, .int i3] [] M Q := by
  unfold F_X3_guard_32 at h
  refine x_aloadn0.mpr ?_
  refine x_iconst.mpr ?_
  refine x_iloadn1.mpr ?_
  refine x_aloadn0.mpr ?_
  obtain ⟨hc, h⟩ := gd h
  refine (x_getf4 hc).mpr ?_
  refine x_iloadn1.mpr ?_
  obtain ⟨hc, h⟩ := gd h
  refine (x_iaload hc.1 hc.2).mpr ?_
  refine x_aloadn0.mpr ?_
  obtain ⟨hc, h⟩ := gd h
  refine (x_getf4 hc).mpr ?_
  refine x_iloadn1.mpr ?_
  obtain ⟨hc, h⟩ := gd h
  refine (x_iaload hc.1 hc.2).mpr ?_
  refine x_iconst.mpr ?_
  obtain ⟨hc, h⟩ := gd h
  obtain ⟨r48_1, hz, h⟩ := Option.bind_eq_some_iff.mp h
  refine (y_virt6 ml_X3_logs (by show 6 ≤ 7; decide) hc.1 hc.2 rfl (by decide) (by show ¬ 8 < 0; decide)).mpr ?_
  refine sf_X3_logs hz ?_
  refine xk0.mpr ?_
  show XP ev_prog _ _ _ r48_1 Q
  refine x_aloadn0.mpr ?_
  obtain ⟨hc, h⟩ := gd h
  refine (x_getf4 hc).mpr ?_
  refine x_iloadn1.mpr ?_
  refine x_iloadn2.mpr ?_
  obtain ⟨hc, h⟩ := gd h
  refine (x_iastore hc.1 hc.2).mpr ?_
  exact sF_X3_guard_32_p1 h hq
def F_X3_guard_0 (a0 : Nat) (i1 : Int32) (i2 : Int32) (i3 : Int32)  (M : ev_M) : Option (Int32 × ev_M) := (if ¬ a0 = 0 ∧ mK M a0 = 2 then (f_X3_isStatement a0 i1 M).bind fun r2_1 => (if r2_1.1 = 0 then F_X3_guard_29   r2_1.2 else (f_X3_in i2 (iI (1)) (iI (6)) r2_1.2).bind fun r12_1 => (if r12_1.1 = 0 then F_X3_guard_29   r12_1.2 else (f_X3_in i3 (iI (0)) (i2 - (iI (1))) r12_1.2).bind fun r23_1 => (if ¬ r23_1.1 = 0 then F_X3_guard_32 a0 i1 i2 i3  r23_1.2 else F_X3_guard_29   r23_1.2))) else none)
theorem sF_X3_guard_0 {a0 : Nat} {i1 : Int32} {i2 : Int32} {i3 : Int32}   {M : ev_M} {Q : Nat → Value → ev_M → Prop} {r : (Int32 × ev_M)} (h : F_X3_guard_0 a0 i1 i2 i3  M = some r) (hq : Q 0 (.int r.1) r.2) : XP ev_prog b_X3_guard_0 [.ref a0, .int i1, .int i2, .int i3] [] M Q := by
  unfold F_X3_guard_0 at h
  refine x_aloadn0.mpr ?_
  refine x_iloadn1.mpr ?_
  obtain ⟨hc, h⟩ := gd h
  obtain ⟨r2_1, hz, h⟩ := Option.bind_eq_some_iff.mp h
  refine (y_virt2 ml_X3_isStatement (by show 2 ≤ 2; decide) hc.1 hc.2 rfl (by decide) (by show ¬ 8 < 0; decide)).mpr ?_
  refine sf_X3_isStatement hz ?_
  refine xk0.mpr ?_
  show XP ev_prog _ _ (.int r2_1.1 :: _) r2_1.2 Q
  rcases ife h with ⟨hc, h⟩ | ⟨hc, h⟩
  · rw [x_if_eq, if_pos hc, bk_X3_guard_29]
    exact sF_X3_guard_29 h hq
  · rw [x_if_eq, if_neg hc]
    refine x_iloadn2.mpr ?_
    refine x_iconst.mpr ?_
    refine (x_bipush (by decide)).mpr ?_
    obtain ⟨r12_1, hz, h⟩ := Option.bind_eq_some_iff.mp h
    refine (y_stat3 ml_X3_in (by show 3 ≤ 3; decide) (by decide) (by decide) (by show ¬ 8 < 0; decide)).mpr ?_
    refine sf_X3_in hz ?_
    refine xk0.mpr ?_
    show XP ev_prog _ _ (.int r12_1.1 :: _) r12_1.2 Q
    rcases ife h with ⟨hc, h⟩ | ⟨hc, h⟩
    · rw [x_if_eq, if_pos hc, bk_X3_guard_29]
      exact sF_X3_guard_29 h hq
    · rw [x_if_eq, if_neg hc]
      refine x_iloadn3.mpr ?_
      refine x_iconst.mpr ?_
      refine x_iloadn2.mpr ?_
      refine x_iconst.mpr ?_
      refine (x_isub).mpr ?_
      obtain ⟨r23_1, hz, h⟩ := Option.bind_eq_some_iff.mp h
      refine (y_stat3 ml_X3_in (by show 3 ≤ 3; decide) (by decide) (by decide) (by show ¬ 8 < 0; decide)).mpr ?_
      refine sf_X3_in hz ?_
      refine xk0.mpr ?_
      show XP ev_prog _ _ (.int r23_1.1 :: _) r23_1.2 Q
      rcases ife h with ⟨hc, h⟩ | ⟨hc, h⟩
      · rw [x_if_ne, if_pos hc, bk_X3_guard_32]
        exact sF_X3_guard_32 h hq
      · rw [x_if_ne, if_neg hc]
        refine x_fall.mpr ?_
        rw [bk_X3_guard_29]
        exact sF_X3_guard_29 h hq
def f_X3_guard (a0 : Nat) (i1 : Int32) (i2 : Int32) (i3 : Int32) (M : ev_M) : Option (Int32 × ev_M) := F_X3_guard_0 a0 i1 i2 i3 M
theorem sf_X3_guard {a0 : Nat} {i1 : Int32} {i2 : Int32} {i3 : Int32} {M : ev_M} {Q : Nat → Value → ev_M → Prop} {r : (Int32 × ev_M)} (h : f_X3_guard a0 i1 i2 i3 M = some r) (hq : Q 0 (.int r.1) r.2) : CX ev_prog 143 [.ref a0, .int i1, .int i2, .int i3] M Q := by
  rw [cx_open (ls := [.ref a0, .int i1, .int i2, .int i3]) bk_X3_guard_0 rfl ml_X3_guard rfl]
  exact sF_X3_guard_0 h hq
def F_X3_mask_17   (M : ev_M) : Option (Int32 × ev_M) := some ((iI (-2)), M)
theorem sF_X3_mask_17   {z0 : Value} {z1 : Value} {z2 : Value} {z3 : Value} {M : ev_M} {Q : Nat → Value → ev_M → Prop} {r : (Int32 × ev_M)} (h : F_X3_mask_17   M = some r) (hq : Q 0 (.int r.1) r.2) : XP ev_prog b_X3_mask_17 [z0, z1, z2, z3] [] M Q := by
  unfold F_X3_mask_17 at h
  refine x_kill.mpr ?_
  show XP ev_prog _ [jk, jk, jk, jk] [] M Q
  refine (x_bipush (by decide)).mpr ?_
  cases h
  exact x_ireturn.mpr hq
def F_X3_mask_20_p1 (i3 : Int32)  (M : ev_M) : Option (Int32 × ev_M) := some (i3, M)
theorem sF_X3_mask_20_p1 {i3 : Int32}  {z0 : Value} {z1 : Value} {z2 : Value} {M : ev_M} {Q : Nat → Value → ev_M → Prop} {r : (Int32 × ev_M)} (h : F_X3_mask_20_p1 i3  M = some r) (hq : Q 0 (.int r.1) r.2) : XP ev_prog [((.iload_n 3, 1, []), []), ((.ireturn, 1, []), [])] [z0, z1, z2, .int i3] [] M Q := by
  unfold F_X3_mask_20_p1 at h
  refine x_iloadn3.mpr ?_
  cases h
  exact x_ireturn.mpr hq
def F_X3_mask_20 (a0 : Nat) (i1 : Int32) (i2 : Int32)  (M : ev_M) : Option (Int32 × ev_M) := (if ([2] : List Nat).contains (mK M a0) = true then (if ev_isI (mK M (mA M a0 12)) = true ∧ ev_in i1 (mN M (mA M a0 12)) = true then (if ¬ a0 = 0 ∧ mK M a0 = 2 then (f_X3_logs a0 (iI (5)) i1 (mI M (mA M a0 12) (ev_ix i1)) (iI (0)) (iI (0)) M).bind fun r33_1 => (if ([2] : List Nat).contains (mK r33_1 a0) = true then (if mK r33_1 (mA r33_1 a0 12) = 40 ∧ ev_in i1 (mN r33_1 (mA r33_1 a0 12)) = true then F_X3_mask_20_p1 (mI M (mA M a0 12) (ev_ix i1))  (wI r33_1 (mA r33_1 a0 12) (ev_ix i1) i2) else none) else none) else none) else none) else none)
theorem sF_X3_mask_20 {a0 : Nat} {i1 : Int32} {i2 : Int32}  {z3 : Value} {M : ev_M} {Q : Nat → Value → ev_M → Prop} {r : (Int32 × ev_M)} (h : F_X3_mask_20 a0 i1 i2  M = some r) (hq : Q 0 (.int r.1) r.2) : XP ev_prog b_X3_mask_20 [.ref a0, .int i1, .int i2, z3] [] M Q := by
  unfold F_X3_mask_20 at h
  refine x_aloadn0.mpr ?_
  obtain ⟨hc, h⟩ := gd h
  refine (x_getf4 hc).mpr ?_
  refine x_iloadn1.mpr ?_
  obtain ⟨hc, h⟩ := gd h
  refine (x_iaload hc.1 hc.2).mpr ?_
  refine x_istoren3.mpr ?_
  refine x_aloadn0.mpr ?_
  refine x_iconst.mpr ?_
  refine x_iloadn1.mpr ?_
  refine x_iloadn3.mpr ?_
  refine x_iconst.mpr ?_
  refine x_iconst.mpr ?_
  obtain ⟨hc, h⟩ := gd h
  obtain ⟨r33_1, hz, h⟩ := Option.bind_eq_some_iff.mp h
  refine (y_virt6 ml_X3_logs (by show 6 ≤ 7; decide) hc.1 hc.2 rfl (by decide) (by show ¬ 8 < 0; decide)).mpr ?_
  refine sf_X3_logs hz ?_
  refine xk0.mpr ?_
  show XP ev_prog _ _ _ r33_1 Q
  refine x_aloadn0.mpr ?_
  obtain ⟨hc, h⟩ := gd h
  refine (x_getf4 hc).mpr ?_
  refine x_iloadn1.mpr ?_
  refine x_iloadn2.mpr ?_
  obtain ⟨hc, h⟩ := gd h
  refine (x_iastore hc.1 hc.2).mpr ?_
  exact sF_X3_mask_20_p1 h hq
def F_X3_mask_0 (a0 : Nat) (i1 : Int32) (i2 : Int32)  (M : ev_M) : Option (Int32 × ev_M) := (if ¬ a0 = 0 ∧ mK M a0 = 2 then (f_X3_isStatement a0 i1 M).bind fun r2_1 => (if r2_1.1 = 0 then F_X3_mask_17   r2_1.2 else (f_X3_in i2 (iI (-1)) (iI (5)) r2_1.2).bind fun r11_1 => (if ¬ r11_1.1 = 0 then F_X3_mask_20 a0 i1 i2  r11_1.2 else F_X3_mask_17   r11_1.2)) else none)
theorem sF_X3_mask_0 {a0 : Nat} {i1 : Int32} {i2 : Int32}  {z3 : Value} {M : ev_M} {Q : Nat → Value → ev_M → Prop} {r : (Int32 × ev_M)} (h : F_X3_mask_0 a0 i1 i2  M = some r) (hq : Q 0 (.int r.1) r.2) : XP ev_prog b_X3_mask_0 [.ref a0, .int i1, .int i2, z3] [] M Q := by
  unfold F_X3_mask_0 at h
  refine x_aloadn0.mpr ?_
  refine x_iloadn1.mpr ?_
  obtain ⟨hc, h⟩ := gd h
  obtain ⟨r2_1, hz, h⟩ := Option.bind_eq_some_iff.mp h
  refine (y_virt2 ml_X3_isStatement (by show 2 ≤ 2; decide) hc.1 hc.2 rfl (by decide) (by show ¬ 8 < 0; decide)).mpr ?_
  refine sf_X3_isStatement hz ?_
  refine xk0.mpr ?_
  show XP ev_prog _ _ (.int r2_1.1 :: _) r2_1.2 Q
  rcases ife h with ⟨hc, h⟩ | ⟨hc, h⟩
  · rw [x_if_eq, if_pos hc, bk_X3_mask_17]
    exact sF_X3_mask_17 h hq
  · rw [x_if_eq, if_neg hc]
    refine x_iloadn2.mpr ?_
    refine x_iconst.mpr ?_
    refine x_iconst.mpr ?_
    obtain ⟨r11_1, hz, h⟩ := Option.bind_eq_some_iff.mp h
    refine (y_stat3 ml_X3_in (by show 3 ≤ 3; decide) (by decide) (by decide) (by show ¬ 8 < 0; decide)).mpr ?_
    refine sf_X3_in hz ?_
    refine xk0.mpr ?_
    show XP ev_prog _ _ (.int r11_1.1 :: _) r11_1.2 Q
    rcases ife h with ⟨hc, h⟩ | ⟨hc, h⟩
    · rw [x_if_ne, if_pos hc, bk_X3_mask_20]
      exact sF_X3_mask_20 h hq
    · rw [x_if_ne, if_neg hc]
      refine x_fall.mpr ?_
      rw [bk_X3_mask_17]
      exact sF_X3_mask_17 h hq
def f_X3_mask (a0 : Nat) (i1 : Int32) (i2 : Int32) (M : ev_M) : Option (Int32 × ev_M) := F_X3_mask_0 a0 i1 i2 M
theorem sf_X3_mask {a0 : Nat} {i1 : Int32} {i2 : Int32} {M : ev_M} {Q : Nat → Value → ev_M → Prop} {r : (Int32 × ev_M)} (h : f_X3_mask a0 i1 i2 M = some r) (hq : Q 0 (.int r.1) r.2) : CX ev_prog 145 [.ref a0, .int i1, .int i2] M Q := by
  rw [cx_open (ls := [.ref a0, .int i1, .int i2, jk]) bk_X3_mask_0 rfl ml_X3_mask rfl]
  exact sF_X3_mask_0 h hq
def F_X3_undo_210 (i1 : Int32)  (M : ev_M) : Option (Int32 × ev_M) := some (i1, M)
theorem sF_X3_undo_210 {i1 : Int32}  {z0 : Value} {z2 : Value} {z3 : Value} {z4 : Value} {M : ev_M} {Q : Nat → Value → ev_M → Prop} {r : (Int32 × ev_M)} (h : F_X3_undo_210 i1  M = some r) (hq : Q 0 (.int r.1) r.2) : XP ev_prog b_X3_undo_210 [z0, .int i1, z2, z3, z4] [] M Q := by
  unfold F_X3_undo_210 at h
  refine x_kill.mpr ?_
  show XP ev_prog _ [jk, .int i1, jk, jk, jk] [] M Q
  refine x_iloadn1.mpr ?_
  cases h
  exact x_ireturn.mpr hq
def F_X3_undo_203_p1 (i1 : Int32)  (M : ev_M) : Option (Int32 × ev_M) := F_X3_undo_210 i1  M
theorem sF_X3_undo_203_p1 {i1 : Int32}  {z0 : Value} {z2 : Value} {z3 : Value} {z4 : Value} {M : ev_M} {Q : Nat → Value → ev_M → Prop} {r : (Int32 × ev_M)} (h : F_X3_undo_203_p1 i1  M = some r) (hq : Q 0 (.int r.1) r.2) : XP ev_prog [((.nop, 0, [0, 643282]), [])] [z0, .int i1, z2, z3, z4] [] M Q := by
  unfold F_X3_undo_203_p1 at h
  refine x_fall.mpr ?_
  rw [bk_X3_undo_210]
  exact sF_X3_undo_210 h hq
def F_X3_undo_203 (a0 : Nat) (i1 : Int32) (i2 : Int32) (i3 : Int32)  (M : ev_M) : Option (Int32 × ev_M) := (if ([2] : List Nat).contains (mK M a0) = true then (if mK M (mA M a0 12) = 40 ∧ ev_in i2 (mN M (mA M a0 12)) = true then F_X3_undo_203_p1 i1  (wI M (mA M a0 12) (ev_ix i2) i3) else none) else none)
theorem sF_X3_undo_203 {a0 : Nat} {i1 : Int32} {i2 : Int32} {i3 : Int32}  {z4 : Value} {M : ev_M} {Q : Nat → Value → ev_M → Prop} {r : (Int32 × ev_M)} (h : F_X3_undo_203 a0 i1 i2 i3  M = some r) (hq : Q 0 (.int r.1) r.2) : XP ev_prog b_X3_undo_203 [.ref a0, .int i1, .int i2, .int i3, z4] [] M Q := by
  unfold F_X3_undo_203 at h
  refine x_aloadn0.mpr ?_
  obtain ⟨hc, h⟩ := gd h
  refine (x_getf4 hc).mpr ?_
  refine x_iloadn2.mpr ?_
  refine x_iloadn3.mpr ?_
  obtain ⟨hc, h⟩ := gd h
  refine (x_iastore hc.1 hc.2).mpr ?_
  exact sF_X3_undo_203_p1 h hq
def F_X3_undo_116_p1 (i1 : Int32)  (M : ev_M) : Option (Int32 × ev_M) := F_X3_undo_210 i1  M
theorem sF_X3_undo_116_p1 {i1 : Int32}  {z0 : Value} {z2 : Value} {z3 : Value} {z4 : Value} {M : ev_M} {Q : Nat → Value → ev_M → Prop} {r : (Int32 × ev_M)} (h : F_X3_undo_116_p1 i1  M = some r) (hq : Q 0 (.int r.1) r.2) : XP ev_prog [((.goto 89, 3, [643282]), [])] [z0, .int i1, z2, z3, z4] [] M Q := by
  unfold F_X3_undo_116_p1 at h
  refine x_goto.mpr ?_
  rw [bk_X3_undo_210]
  exact sF_X3_undo_210 h hq
def F_X3_undo_116 (a0 : Nat) (i1 : Int32) (i3 : Int32)  (M : ev_M) : Option (Int32 × ev_M) := (if ([2] : List Nat).contains (mK M a0) = true then F_X3_undo_116_p1 i1  (wI M a0 6 i3) else none)
theorem sF_X3_undo_116 {a0 : Nat} {i1 : Int32} {i3 : Int32}  {z2 : Value} {z4 : Value} {M : ev_M} {Q : Nat → Value → ev_M → Prop} {r : (Int32 × ev_M)} (h : F_X3_undo_116 a0 i1 i3  M = some r) (hq : Q 0 (.int r.1) r.2) : XP ev_prog b_X3_undo_116 [.ref a0, .int i1, z2, .int i3, z4] [] M Q := by
  unfold F_X3_undo_116 at h
  refine x_aloadn0.mpr ?_
  refine x_iloadn3.mpr ?_
  obtain ⟨hc, h⟩ := gd h
  refine (x_putf0 hc).mpr ?_
  exact sF_X3_undo_116_p1 h hq
def F_X3_undo_124_p1 (i1 : Int32)  (M : ev_M) : Option (Int32 × ev_M) := F_X3_undo_210 i1  M
theorem sF_X3_undo_124_p1 {i1 : Int32}  {z0 : Value} {z2 : Value} {z3 : Value} {z4 : Value} {M : ev_M} {Q : Nat → Value → ev_M → Prop} {r : (Int32 × ev_M)} (h : F_X3_undo_124_p1 i1  M = some r) (hq : Q 0 (.int r.1) r.2) : XP ev_prog [((.goto 76, 3, [643282]), [])] [z0, .int i1, z2, z3, z4] [] M Q := by
  unfold F_X3_undo_124_p1 at h
  refine x_goto.mpr ?_
  rw [bk_X3_undo_210]
  exact sF_X3_undo_210 h hq
def F_X3_undo_124 (a0 : Nat) (i1 : Int32)  (M : ev_M) : Option (Int32 × ev_M) := (if ([2] : List Nat).contains (mK M a0) = true then (if ([2] : List Nat).contains (mK M a0) = true then F_X3_undo_124_p1 i1  (wI M a0 7 ((mI M a0 7) - (iI (1)))) else none) else none)
theorem sF_X3_undo_124 {a0 : Nat} {i1 : Int32}  {z2 : Value} {z3 : Value} {z4 : Value} {M : ev_M} {Q : Nat → Value → ev_M → Prop} {r : (Int32 × ev_M)} (h : F_X3_undo_124 a0 i1  M = some r) (hq : Q 0 (.int r.1) r.2) : XP ev_prog b_X3_undo_124 [.ref a0, .int i1, z2, z3, z4] [] M Q := by
  unfold F_X3_undo_124 at h
  refine x_aloadn0.mpr ?_
  refine x_dup_ref.mpr ?_
  obtain ⟨hc, h⟩ := gd h
  refine (x_getf0 hc).mpr ?_
  refine x_iconst.mpr ?_
  refine (x_isub).mpr ?_
  obtain ⟨hc, h⟩ := gd h
  refine (x_putf0 hc).mpr ?_
  exact sF_X3_undo_124_p1 h hq
def F_X3_undo_137_p1 (i1 : Int32)  (M : ev_M) : Option (Int32 × ev_M) := F_X3_undo_210 i1  M
theorem sF_X3_undo_137_p1 {i1 : Int32}  {z0 : Value} {z2 : Value} {z3 : Value} {z4 : Value} {M : ev_M} {Q : Nat → Value → ev_M → Prop} {r : (Int32 × ev_M)} (h : F_X3_undo_137_p1 i1  M = some r) (hq : Q 0 (.int r.1) r.2) : XP ev_prog [((.goto 66, 3, [643282]), [])] [z0, .int i1, z2, z3, z4] [] M Q := by
  unfold F_X3_undo_137_p1 at h
  refine x_goto.mpr ?_
  rw [bk_X3_undo_210]
  exact sF_X3_undo_210 h hq
def F_X3_undo_137 (a0 : Nat) (i1 : Int32) (i2 : Int32) (i3 : Int32)  (M : ev_M) : Option (Int32 × ev_M) := (if ([2] : List Nat).contains (mK M a0) = true then (if mK M (mA M a0 13) = 40 ∧ ev_in i2 (mN M (mA M a0 13)) = true then F_X3_undo_137_p1 i1  (wI M (mA M a0 13) (ev_ix i2) i3) else none) else none)
theorem sF_X3_undo_137 {a0 : Nat} {i1 : Int32} {i2 : Int32} {i3 : Int32}  {z4 : Value} {M : ev_M} {Q : Nat → Value → ev_M → Prop} {r : (Int32 × ev_M)} (h : F_X3_undo_137 a0 i1 i2 i3  M = some r) (hq : Q 0 (.int r.1) r.2) : XP ev_prog b_X3_undo_137 [.ref a0, .int i1, .int i2, .int i3, z4] [] M Q := by
  unfold F_X3_undo_137 at h
  refine x_aloadn0.mpr ?_
  obtain ⟨hc, h⟩ := gd h
  refine (x_getf4 hc).mpr ?_
  refine x_iloadn2.mpr ?_
  refine x_iloadn3.mpr ?_
  obtain ⟨hc, h⟩ := gd h
  refine (x_iastore hc.1 hc.2).mpr ?_
  exact sF_X3_undo_137_p1 h hq
def F_X3_undo_147_p6 (i1 : Int32)  (M : ev_M) : Option (Int32 × ev_M) := F_X3_undo_210 i1  M
theorem sF_X3_undo_147_p6 {i1 : Int32}  {z0 : Value} {z2 : Value} {z3 : Value} {z4 : Value} {M : ev_M} {Q : Nat → Value → ev_M → Prop} {r : (Int32 × ev_M)} (h : F_X3_undo_147_p6 i1  M = some r) (hq : Q 0 (.int r.1) r.2) : XP ev_prog [((.goto 28, 3, [643282]), [])] [z0, .int i1, z2, z3, z4] [] M Q := by
  unfold F_X3_undo_147_p6 at h
  refine x_goto.mpr ?_
  rw [bk_X3_undo_210]
  exact sF_X3_undo_210 h hq
def F_X3_undo_147_p3 (a0 : Nat) (i1 : Int32) (i2 : Int32)  (M : ev_M) : Option (Int32 × ev_M) := (if ([2] : List Nat).contains (mK M a0) = true then (if ([2] : List Nat).contains (mK M a0) = true then (if ([2] : List Nat).contains (mK M a0) = true then (if ev_isI (mK M (mA M a0 17)) = true ∧ ev_in (((iI (6)) * (mI M a0 18)) + (iI (4))) (mN M (mA M a0 17)) = true then (if mK M (mA M a0 16) = 40 ∧ ev_in i2 (mN M (mA M a0 16)) = true then F_X3_undo_147_p6 i1  (wI M (mA M a0 16) (ev_ix i2) (mI M (mA M a0 17) (ev_ix (((iI (6)) * (mI M a0 18)) + (iI (4)))))) else none) else none) else none) else none) else none)
theorem sF_X3_undo_147_p3 {a0 : Nat} {i1 : Int32} {i2 : Int32}  {z3 : Value} {z4 : Value} {M : ev_M} {Q : Nat → Value → ev_M → Prop} {r : (Int32 × ev_M)} (h : F_X3_undo_147_p3 a0 i1 i2  M = some r) (hq : Q 0 (.int r.1) r.2) : XP ev_prog [((.aload_n 0, 1, []), []), ((.getfield 50, 3, [0, 4, 16, 2]), []), ((.iload_n 2, 1, []), []), ((.aload_n 0, 1, []), []), ((.getfield 53, 3, [0, 4, 17, 2]), []), ((.bipush 6, 2, []), []), ((.aload_n 0, 1, []), []), ((.getfield 151, 3, [0, 0, 18, 2]), []), ((.imul, 1, []), []), ((.iconst 4, 1, []), []), ((.iadd, 1, []), []), ((.iaload, 1, []), []), ((.iastore, 1, []), []), ((.goto 28, 3, [643282]), [])] [.ref a0, .int i1, .int i2, z3, z4] [] M Q := by
  unfold F_X3_undo_147_p3 at h
  refine x_aloadn0.mpr ?_
  obtain ⟨hc, h⟩ := gd h
  refine (x_getf4 hc).mpr ?_
  refine x_iloadn2.mpr ?_
  refine x_aloadn0.mpr ?_
  obtain ⟨hc, h⟩ := gd h
  refine (x_getf4 hc).mpr ?_
  refine (x_bipush (by decide)).mpr ?_
  refine x_aloadn0.mpr ?_
  obtain ⟨hc, h⟩ := gd h
  refine (x_getf0 hc).mpr ?_
  refine (x_imul).mpr ?_
  refine x_iconst.mpr ?_
  refine (x_iadd).mpr ?_
  obtain ⟨hc, h⟩ := gd h
  refine (x_iaload hc.1 hc.2).mpr ?_
  obtain ⟨hc, h⟩ := gd h
  refine (x_iastore hc.1 hc.2).mpr ?_
  exact sF_X3_undo_147_p6 h hq
def F_X3_undo_147_p1 (a0 : Nat) (i1 : Int32) (i2 : Int32) (i4 : Int32)  (M : ev_M) : Option (Int32 × ev_M) := (if ([2] : List Nat).contains (mK M a0) = true then (if mK M (mA M a0 15) = 40 ∧ ev_in i2 (mN M (mA M a0 15)) = true then F_X3_undo_147_p3 a0 i1 i2  (wI M (mA M a0 15) (ev_ix i2) i4) else none) else none)
theorem sF_X3_undo_147_p1 {a0 : Nat} {i1 : Int32} {i2 : Int32} {i4 : Int32}  {z3 : Value} {M : ev_M} {Q : Nat → Value → ev_M → Prop} {r : (Int32 × ev_M)} (h : F_X3_undo_147_p1 a0 i1 i2 i4  M = some r) (hq : Q 0 (.int r.1) r.2) : XP ev_prog [((.aload_n 0, 1, []), []), ((.getfield 47, 3, [0, 4, 15, 2]), []), ((.iload_n 2, 1, []), []), ((.iload 4, 2, []), []), ((.iastore, 1, []), []), ((.aload_n 0, 1, []), []), ((.getfield 50, 3, [0, 4, 16, 2]), []), ((.iload_n 2, 1, []), []), ((.aload_n 0, 1, []), []), ((.getfield 53, 3, [0, 4, 17, 2]), []), ((.bipush 6, 2, []), []), ((.aload_n 0, 1, []), []), ((.getfield 151, 3, [0, 0, 18, 2]), []), ((.imul, 1, []), []), ((.iconst 4, 1, []), []), ((.iadd, 1, []), []), ((.iaload, 1, []), []), ((.iastore, 1, []), []), ((.goto 28, 3, [643282]), [])] [.ref a0, .int i1, .int i2, z3, .int i4] [] M Q := by
  unfold F_X3_undo_147_p1 at h
  refine x_aloadn0.mpr ?_
  obtain ⟨hc, h⟩ := gd h
  refine (x_getf4 hc).mpr ?_
  refine x_iloadn2.mpr ?_
  refine x_iload4.mpr ?_
  obtain ⟨hc, h⟩ := gd h
  refine (x_iastore hc.1 hc.2).mpr ?_
  exact sF_X3_undo_147_p3 h hq
def F_X3_undo_147 (a0 : Nat) (i1 : Int32) (i2 : Int32) (i3 : Int32) (i4 : Int32)  (M : ev_M) : Option (Int32 × ev_M) := (if ([2] : List Nat).contains (mK M a0) = true then (if mK M (mA M a0 14) = 40 ∧ ev_in i2 (mN M (mA M a0 14)) = true then F_X3_undo_147_p1 a0 i1 i2 i4  (wI M (mA M a0 14) (ev_ix i2) i3) else none) else none)
theorem sF_X3_undo_147 {a0 : Nat} {i1 : Int32} {i2 : Int32} {i3 : Int32} {i4 : Int32}   {M : ev_M} {Q : Nat → Value → ev_M → Prop} {r : (Int32 × ev_M)} (h : F_X3_undo_147 a0 i1 i2 i3 i4  M = some r) (hq : Q 0 (.int r.1) r.2) : XP ev_prog b_X3_undo_147 [.ref a0, .int i1, .int i2, .int i3, .int i4] [] M Q := by
  unfold F_X3_undo_147 at h
  refine x_aloadn0.mpr ?_
  obtain ⟨hc, h⟩ := gd h
  refine (x_getf4 hc).mpr ?_
  refine x_iloadn2.mpr ?_
  refine x_iloadn3.mpr ?_
  obtain ⟨hc, h⟩ := gd h
  refine (x_iastore hc.1 hc.2).mpr ?_
  exact sF_X3_undo_147_p1 h hq
def F_X3_undo_185_p3 (i1 : Int32)  (M : ev_M) : Option (Int32 × ev_M) := F_X3_undo_210 i1  M
theorem sF_X3_undo_185_p3 {i1 : Int32}  {z0 : Value} {z2 : Value} {z3 : Value} {z4 : Value} {M : ev_M} {Q : Nat → Value → ev_M → Prop} {r : (Int32 × ev_M)} (h : F_X3_undo_185_p3 i1  M = some r) (hq : Q 0 (.int r.1) r.2) : XP ev_prog [((.goto 10, 3, [643282]), [])] [z0, .int i1, z2, z3, z4] [] M Q := by
  unfold F_X3_undo_185_p3 at h
  refine x_goto.mpr ?_
  rw [bk_X3_undo_210]
  exact sF_X3_undo_210 h hq
def F_X3_undo_185_p1 (a0 : Nat) (i1 : Int32) (i2 : Int32) (i4 : Int32)  (M : ev_M) : Option (Int32 × ev_M) := (if ([2] : List Nat).contains (mK M a0) = true then (if mK M (mA M a0 11) = 40 ∧ ev_in i2 (mN M (mA M a0 11)) = true then F_X3_undo_185_p3 i1  (wI M (mA M a0 11) (ev_ix i2) i4) else none) else none)
theorem sF_X3_undo_185_p1 {a0 : Nat} {i1 : Int32} {i2 : Int32} {i4 : Int32}  {z3 : Value} {M : ev_M} {Q : Nat → Value → ev_M → Prop} {r : (Int32 × ev_M)} (h : F_X3_undo_185_p1 a0 i1 i2 i4  M = some r) (hq : Q 0 (.int r.1) r.2) : XP ev_prog [((.aload_n 0, 1, []), []), ((.getfield 35, 3, [0, 4, 11, 2]), []), ((.iload_n 2, 1, []), []), ((.iload 4, 2, []), []), ((.iastore, 1, []), []), ((.goto 10, 3, [643282]), [])] [.ref a0, .int i1, .int i2, z3, .int i4] [] M Q := by
  unfold F_X3_undo_185_p1 at h
  refine x_aloadn0.mpr ?_
  obtain ⟨hc, h⟩ := gd h
  refine (x_getf4 hc).mpr ?_
  refine x_iloadn2.mpr ?_
  refine x_iload4.mpr ?_
  obtain ⟨hc, h⟩ := gd h
  refine (x_iastore hc.1 hc.2).mpr ?_
  exact sF_X3_undo_185_p3 h hq
def F_X3_undo_185 (a0 : Nat) (i1 : Int32) (i2 : Int32) (i3 : Int32) (i4 : Int32)  (M : ev_M) : Option (Int32 × ev_M) := (if ([2] : List Nat).contains (mK M a0) = true then (if mK M (mA M a0 10) = 40 ∧ ev_in i2 (mN M (mA M a0 10)) = true then F_X3_undo_185_p1 a0 i1 i2 i4  (wI M (mA M a0 10) (ev_ix i2) i3) else none) else none)
theorem sF_X3_undo_185 {a0 : Nat} {i1 : Int32} {i2 : Int32} {i3 : Int32} {i4 : Int32}   {M : ev_M} {Q : Nat → Value → ev_M → Prop} {r : (Int32 × ev_M)} (h : F_X3_undo_185 a0 i1 i2 i3 i4  M = some r) (hq : Q 0 (.int r.1) r.2) : XP ev_prog b_X3_undo_185 [.ref a0, .int i1, .int i2, .int i3, .int i4] [] M Q := by
  unfold F_X3_undo_185 at h
  refine x_aloadn0.mpr ?_
  obtain ⟨hc, h⟩ := gd h
  refine (x_getf4 hc).mpr ?_
  refine x_iloadn2.mpr ?_
  refine x_iloadn3.mpr ?_
  obtain ⟨hc, h⟩ := gd h
  refine (x_iastore hc.1 hc.2).mpr ?_
  exact sF_X3_undo_185_p1 h hq
def F_X3_undo_10_p1 (a0 : Nat)  (M : ev_M) : Option (Int32 × ev_M) := (if ([2] : List Nat).contains (mK M a0) = true then (if ([2] : List Nat).contains (mK M a0) = true then (if ev_isI (mK M (mA M a0 17)) = true ∧ ev_in ((iI (6)) * (mI M a0 18)) (mN M (mA M a0 17)) = true then (if ([2] : List Nat).contains (mK M a0) = true then (if ([2] : List Nat).contains (mK M a0) = true then (if ev_isI (mK M (mA M a0 17)) = true ∧ ev_in (((iI (6)) * (mI M a0 18)) + (iI (1))) (mN M (mA M a0 17)) = true then (if ([2] : List Nat).contains (mK M a0) = true then (if ([2] : List Nat).contains (mK M a0) = true then (if ev_isI (mK M (mA M a0 17)) = true ∧ ev_in (((iI (6)) * (mI M a0 18)) + (iI (2))) (mN M (mA M a0 17)) = true then (if ([2] : List Nat).contains (mK M a0) = true then (if ([2] : List Nat).contains (mK M a0) = true then (if ev_isI (mK M (mA M a0 17)) = true ∧ ev_in (((iI (6)) * (mI M a0 18)) + (iI (3))) (mN M (mA M a0 17)) = true then (if Int32.toInt (mI M (mA M a0 17) (ev_ix ((iI (6)) * (mI M a0 18)))) < 0 ∨ 4 < Int32.toInt (mI M (mA M a0 17) (ev_ix ((iI (6)) * (mI M a0 18)))) then F_X3_undo_203 a0 (mI M (mA M a0 17) (ev_ix ((iI (6)) * (mI M a0 18)))) (mI M (mA M a0 17) (ev_ix (((iI (6)) * (mI M a0 18)) + (iI (1))))) (mI M (mA M a0 17) (ev_ix (((iI (6)) * (mI M a0 18)) + (iI (2)))))  M else match (Int32.toInt (mI M (mA M a0 17) (ev_ix ((iI (6)) * (mI M a0 18)))) - 0).toNat with | 0 => F_X3_undo_116 a0 (mI M (mA M a0 17) (ev_ix ((iI (6)) * (mI M a0 18)))) (mI M (mA M a0 17) (ev_ix (((iI (6)) * (mI M a0 18)) + (iI (2)))))  M | 1 => F_X3_undo_124 a0 (mI M (mA M a0 17) (ev_ix ((iI (6)) * (mI M a0 18))))  M | 2 => F_X3_undo_137 a0 (mI M (mA M a0 17) (ev_ix ((iI (6)) * (mI M a0 18)))) (mI M (mA M a0 17) (ev_ix (((iI (6)) * (mI M a0 18)) + (iI (1))))) (mI M (mA M a0 17) (ev_ix (((iI (6)) * (mI M a0 18)) + (iI (2)))))  M | 3 => F_X3_undo_147 a0 (mI M (mA M a0 17) (ev_ix ((iI (6)) * (mI M a0 18)))) (mI M (mA M a0 17) (ev_ix (((iI (6)) * (mI M a0 18)) + (iI (1))))) (mI M (mA M a0 17) (ev_ix (((iI (6)) * (mI M a0 18)) + (iI (2))))) (mI M (mA M a0 17) (ev_ix (((iI (6)) * (mI M a0 18)) + (iI (3)))))  M | 4 => F_X3_undo_185 a0 (mI M (mA M a0 17) (ev_ix ((iI (6)) * (mI M a0 18)))) (mI M (mA M a0 17) (ev_ix (((iI (6)) * (mI M a0 18)) + (iI (1))))) (mI M (mA M a0 17) (ev_ix (((iI (6)) * (mI M a0 18)) + (iI (2))))) (mI M (mA M a0 17) (ev_ix (((iI (6)) * (mI M a0 18)) + (iI (3)))))  M | _ + 5 => F_X3_undo_203 a0 (mI M (mA M a0 17) (ev_ix ((iI (6)) * (mI M a0 18)))) (mI M (mA M a0 17) (ev_ix (((iI (6)) * (mI M a0 18)) + (iI (1))))) (mI M (mA M a0 17) (ev_ix (((iI (6)) * (mI M a0 18)) + (iI (2)))))  M) else none) else none) else none) else none) else none) else none) else none) else none) else none) else none) else none) else none)
theorem sF_X3_undo_10_p1 {a0 : Nat}  {z1 : Value} {z2 : Value} {z3 : Value} {z4 : Value} {M : ev_M} {Q : Nat → Value → ev_M → Prop} {r : (Int32 × ev_M)} (h : F_X3_undo_10_p1 a0  M = some r) (hq : Q 0 (.int r.1) r.2) : XP ev_prog [((.aload_n 0, 1, []), []), ((.getfield 53, 3, [0, 4, 17, 2]), []), ((.bipush 6, 2, []), []), ((.aload_n 0, 1, []), []), ((.getfield 151, 3, [0, 0, 18, 2]), []), ((.imul, 1, []), []), ((.iaload, 1, []), []), ((.istore_n 1, 1, []), []), ((.aload_n 0, 1, []), []), ((.getfield 53, 3, [0, 4, 17, 2]), []), ((.bipush 6, 2, []), []), ((.aload_n 0, 1, []), []), ((.getfield 151, 3, [0, 0, 18, 2]), []), ((.imul, 1, []), []), ((.iconst 1, 1, []), []), ((.iadd, 1, []), []), ((.iaload, 1, []), []), ((.istore_n 2, 1, []), []), ((.aload_n 0, 1, []), []), ((.getfield 53, 3, [0, 4, 17, 2]), []), ((.bipush 6, 2, []), []), ((.aload_n 0, 1, []), []), ((.getfield 151, 3, [0, 0, 18, 2]), []), ((.imul, 1, []), []), ((.iconst 2, 1, []), []), ((.iadd, 1, []), []), ((.iaload, 1, []), []), ((.istore_n 3, 1, []), []), ((.aload_n 0, 1, []), []), ((.getfield 53, 3, [0, 4, 17, 2]), []), ((.bipush 6, 2, []), []), ((.aload_n 0, 1, []), []), ((.getfield 151, 3, [0, 0, 18, 2]), []), ((.imul, 1, []), []), ((.iconst 3, 1, []), []), ((.iadd, 1, []), []), ((.iaload, 1, []), []), ((.istore 4, 2, []), []), ((.iload_n 1, 1, []), []), ((.tableswitch 123 0 4 #[36, 44, 57, 67, 105], 36, [643275, 643188, 643196, 643209, 643219, 643257]), [])] [.ref a0, z1, z2, z3, z4] [] M Q := by
  unfold F_X3_undo_10_p1 at h
  refine x_aloadn0.mpr ?_
  obtain ⟨hc, h⟩ := gd h
  refine (x_getf4 hc).mpr ?_
  refine (x_bipush (by decide)).mpr ?_
  refine x_aloadn0.mpr ?_
  obtain ⟨hc, h⟩ := gd h
  refine (x_getf0 hc).mpr ?_
  refine (x_imul).mpr ?_
  obtain ⟨hc, h⟩ := gd h
  refine (x_iaload hc.1 hc.2).mpr ?_
  refine x_istoren1.mpr ?_
  refine x_aloadn0.mpr ?_
  obtain ⟨hc, h⟩ := gd h
  refine (x_getf4 hc).mpr ?_
  refine (x_bipush (by decide)).mpr ?_
  refine x_aloadn0.mpr ?_
  obtain ⟨hc, h⟩ := gd h
  refine (x_getf0 hc).mpr ?_
  refine (x_imul).mpr ?_
  refine x_iconst.mpr ?_
  refine (x_iadd).mpr ?_
  obtain ⟨hc, h⟩ := gd h
  refine (x_iaload hc.1 hc.2).mpr ?_
  refine x_istoren2.mpr ?_
  refine x_aloadn0.mpr ?_
  obtain ⟨hc, h⟩ := gd h
  refine (x_getf4 hc).mpr ?_
  refine (x_bipush (by decide)).mpr ?_
  refine x_aloadn0.mpr ?_
  obtain ⟨hc, h⟩ := gd h
  refine (x_getf0 hc).mpr ?_
  refine (x_imul).mpr ?_
  refine x_iconst.mpr ?_
  refine (x_iadd).mpr ?_
  obtain ⟨hc, h⟩ := gd h
  refine (x_iaload hc.1 hc.2).mpr ?_
  refine x_istoren3.mpr ?_
  refine x_aloadn0.mpr ?_
  obtain ⟨hc, h⟩ := gd h
  refine (x_getf4 hc).mpr ?_
  refine (x_bipush (by decide)).mpr ?_
  refine x_aloadn0.mpr ?_
  obtain ⟨hc, h⟩ := gd h
  refine (x_getf0 hc).mpr ?_
  refine (x_imul).mpr ?_
  refine x_iconst.mpr ?_
  refine (x_iadd).mpr ?_
  obtain ⟨hc, h⟩ := gd h
  refine (x_iaload hc.1 hc.2).mpr ?_
  refine x_istore4.mpr ?_
  refine x_iloadn1.mpr ?_
  refine x_tsw.mpr ?_
  rcases ife h with ⟨hc, h⟩ | ⟨hc, h⟩
  · rw [if_pos hc, bk_X3_undo_203]
    exact sF_X3_undo_203 h hq
  · rw [if_neg hc]
    generalize (Int32.toInt (mI M (mA M a0 17) (ev_ix ((iI (6)) * (mI M a0 18)))) - 0).toNat = n at h ⊢
    match n, h with
    | 0, h =>
      show XP ev_prog (ev_prog.1 643188) _ _ M Q
      rw [bk_X3_undo_116]
      exact sF_X3_undo_116 h hq
    | 1, h =>
      show XP ev_prog (ev_prog.1 643196) _ _ M Q
      rw [bk_X3_undo_124]
      exact sF_X3_undo_124 h hq
    | 2, h =>
      show XP ev_prog (ev_prog.1 643209) _ _ M Q
      rw [bk_X3_undo_137]
      exact sF_X3_undo_137 h hq
    | 3, h =>
      show XP ev_prog (ev_prog.1 643219) _ _ M Q
      rw [bk_X3_undo_147]
      exact sF_X3_undo_147 h hq
    | 4, h =>
      show XP ev_prog (ev_prog.1 643257) _ _ M Q
      rw [bk_X3_undo_185]
      exact sF_X3_undo_185 h hq
    | n + 5, h =>
      show XP ev_prog (ev_prog.1 643275) _ _ _ Q
      rw [bk_X3_undo_203]
      exact sF_X3_undo_203 h hq
def F_X3_undo_10 (a0 : Nat)  (M : ev_M) : Option (Int32 × ev_M) := (if ([2] : List Nat).contains (mK M a0) = true then (if ([2] : List Nat).contains (mK M a0) = true then F_X3_undo_10_p1 a0  (wI M a0 18 ((mI M a0 18) - (iI (1)))) else none) else none)
theorem sF_X3_undo_10 {a0 : Nat}  {z1 : Value} {z2 : Value} {z3 : Value} {z4 : Value} {M : ev_M} {Q : Nat → Value → ev_M → Prop} {r : (Int32 × ev_M)} (h : F_X3_undo_10 a0  M = some r) (hq : Q 0 (.int r.1) r.2) : XP ev_prog b_X3_undo_10 [.ref a0, z1, z2, z3, z4] [] M Q := by
  unfold F_X3_undo_10 at h
  refine x_aloadn0.mpr ?_
  refine x_dup_ref.mpr ?_
  obtain ⟨hc, h⟩ := gd h
  refine (x_getf0 hc).mpr ?_
  refine x_iconst.mpr ?_
  refine (x_isub).mpr ?_
  obtain ⟨hc, h⟩ := gd h
  refine (x_putf0 hc).mpr ?_
  exact sF_X3_undo_10_p1 h hq
def F_X3_undo_0 (a0 : Nat)  (M : ev_M) : Option (Int32 × ev_M) := (if ([2] : List Nat).contains (mK M a0) = true then (if ¬ (mI M a0 18) = 0 then F_X3_undo_10 a0  M else some ((iI (-3)), M)) else none)
theorem sF_X3_undo_0 {a0 : Nat}  {z1 : Value} {z2 : Value} {z3 : Value} {z4 : Value} {M : ev_M} {Q : Nat → Value → ev_M → Prop} {r : (Int32 × ev_M)} (h : F_X3_undo_0 a0  M = some r) (hq : Q 0 (.int r.1) r.2) : XP ev_prog b_X3_undo_0 [.ref a0, z1, z2, z3, z4] [] M Q := by
  unfold F_X3_undo_0 at h
  refine x_aloadn0.mpr ?_
  obtain ⟨hc, h⟩ := gd h
  refine (x_getf0 hc).mpr ?_
  rcases ife h with ⟨hc, h⟩ | ⟨hc, h⟩
  · rw [x_if_ne, if_pos hc, bk_X3_undo_10]
    exact sF_X3_undo_10 h hq
  · rw [x_if_ne, if_neg hc]
    refine (x_bipush (by decide)).mpr ?_
    cases h
    exact x_ireturn.mpr hq
def f_X3_undo (a0 : Nat) (M : ev_M) : Option (Int32 × ev_M) := F_X3_undo_0 a0 M
theorem sf_X3_undo {a0 : Nat} {M : ev_M} {Q : Nat → Value → ev_M → Prop} {r : (Int32 × ev_M)} (h : f_X3_undo a0 M = some r) (hq : Q 0 (.int r.1) r.2) : CX ev_prog 157 [.ref a0] M Q := by
  rw [cx_open (ls := [.ref a0, jk, jk, jk, jk]) bk_X3_undo_0 rfl ml_X3_undo rfl]
  exact sF_X3_undo_0 h hq
def F_X3_formAs_15  (s0 : Int32) (M : ev_M) : Option (Int32 × ev_M) := some (s0, M)
theorem sF_X3_formAs_15  {s0 : Int32} {z0 : Value} {z1 : Value} {z2 : Value} {z3 : Value} {M : ev_M} {Q : Nat → Value → ev_M → Prop} {r : (Int32 × ev_M)} (h : F_X3_formAs_15  s0 M = some r) (hq : Q 0 (.int r.1) r.2) : XP ev_prog b_X3_formAs_15 [z0, z1, z2, z3] [.int s0] M Q := by
  unfold F_X3_formAs_15 at h
  refine x_kill.mpr ?_
  show XP ev_prog _ [jk, jk, jk, jk] [.int s0] M Q
  cases h
  exact x_ireturn.mpr hq
def F_X3_formAs_9 (a0 : Nat) (i1 : Int32)  (M : ev_M) : Option (Int32 × ev_M) := (if ([2] : List Nat).contains (mK M a0) = true then (if ev_isI (mK M (mA M a0 0)) = true ∧ ev_in i1 (mN M (mA M a0 0)) = true then F_X3_formAs_15  (mI M (mA M a0 0) (ev_ix i1)) M else none) else none)
theorem sF_X3_formAs_9 {a0 : Nat} {i1 : Int32}  {z2 : Value} {z3 : Value} {M : ev_M} {Q : Nat → Value → ev_M → Prop} {r : (Int32 × ev_M)} (h : F_X3_formAs_9 a0 i1  M = some r) (hq : Q 0 (.int r.1) r.2) : XP ev_prog b_X3_formAs_9 [.ref a0, .int i1, z2, z3] [] M Q := by
  unfold F_X3_formAs_9 at h
  refine x_aloadn0.mpr ?_
  obtain ⟨hc, h⟩ := gd h
  refine (x_getf4 hc).mpr ?_
  refine x_iloadn1.mpr ?_
  obtain ⟨hc, h⟩ := gd h
  refine (x_iaload hc.1 hc.2).mpr ?_
  refine x_fall.mpr ?_
  rw [bk_X3_formAs_15]
  exact sF_X3_formAs_15 h hq
def F_X3_formAs_0 (a0 : Nat) (i1 : Int32) (i2 : Int32) (i3 : Int32)  (M : ev_M) : Option (Int32 × ev_M) := (if ¬ i1 = i2 then F_X3_formAs_9 a0 i1  M else F_X3_formAs_15  i3 M)
theorem sF_X3_formAs_0 {a0 : Nat} {i1 : Int32} {i2 : Int32} {i3 : Int32}   {M : ev_M} {Q : Nat → Value → ev_M → Prop} {r : (Int32 × ev_M)} (h : F_X3_formAs_0 a0 i1 i2 i3  M = some r) (hq : Q 0 (.int r.1) r.2) : XP ev_prog b_X3_formAs_0 [.ref a0, .int i1, .int i2, .int i3] [] M Q := by
  unfold F_X3_formAs_0 at h
  refine x_iloadn1.mpr ?_
  refine x_iloadn2.mpr ?_
  rcases ife h with ⟨hc, h⟩ | ⟨hc, h⟩
  · rw [x_icmp_ne, if_pos hc, bk_X3_formAs_9]
    exact sF_X3_formAs_9 h hq
  · rw [x_icmp_ne, if_neg hc]
    refine x_iloadn3.mpr ?_
    refine x_goto.mpr ?_
    rw [bk_X3_formAs_15]
    exact sF_X3_formAs_15 h hq
def f_X3_formAs (a0 : Nat) (i1 : Int32) (i2 : Int32) (i3 : Int32) (M : ev_M) : Option (Int32 × ev_M) := F_X3_formAs_0 a0 i1 i2 i3 M
theorem sf_X3_formAs {a0 : Nat} {i1 : Int32} {i2 : Int32} {i3 : Int32} {M : ev_M} {Q : Nat → Value → ev_M → Prop} {r : (Int32 × ev_M)} (h : f_X3_formAs a0 i1 i2 i3 M = some r) (hq : Q 0 (.int r.1) r.2) : CX ev_prog 171 [.ref a0, .int i1, .int i2, .int i3] M Q := by
  rw [cx_open (ls := [.ref a0, .int i1, .int i2, .int i3]) bk_X3_formAs_0 rfl ml_X3_formAs rfl]
  exact sF_X3_formAs_0 h hq
def F_X3_isNumbers_0 (i0 : Int32)  (M : ev_M) : Option (Int32 × ev_M) := (f_X3_in i0 (iI (0)) (iI (3)) M).bind fun r3_1 => (if r3_1.1 = 0 ∨ r3_1.1 = 1 then some (r3_1.1, r3_1.2) else none)
theorem sF_X3_isNumbers_0 {i0 : Int32}   {M : ev_M} {Q : Nat → Value → ev_M → Prop} {r : (Int32 × ev_M)} (h : F_X3_isNumbers_0 i0  M = some r) (hq : Q 0 (.int r.1) r.2) : XP ev_prog b_X3_isNumbers_0 [.int i0] [] M Q := by
  unfold F_X3_isNumbers_0 at h
  refine x_iloadn0.mpr ?_
  refine x_iconst.mpr ?_
  refine x_iconst.mpr ?_
  obtain ⟨r3_1, hz, h⟩ := Option.bind_eq_some_iff.mp h
  refine (y_stat3 ml_X3_in (by show 3 ≤ 3; decide) (by decide) (by decide) (by show ¬ 8 < 0; decide)).mpr ?_
  refine sf_X3_in hz ?_
  refine xk0.mpr ?_
  show XP ev_prog _ _ (.int r3_1.1 :: _) r3_1.2 Q
  obtain ⟨hc, h⟩ := gd h
  cases h
  exact (x_ireturnZ hc).mpr hq
def f_X3_isNumbers (i0 : Int32) (M : ev_M) : Option (Int32 × ev_M) := F_X3_isNumbers_0 i0 M
theorem sf_X3_isNumbers {i0 : Int32} {M : ev_M} {Q : Nat → Value → ev_M → Prop} {r : (Int32 × ev_M)} (h : f_X3_isNumbers i0 M = some r) (hq : Q 0 (.int r.1) r.2) : CX ev_prog 172 [.int i0] M Q := by
  rw [cx_open (ls := [.int i0]) bk_X3_isNumbers_0 rfl ml_X3_isNumbers rfl]
  exact sF_X3_isNumbers_0 h hq
def F_X3_familyAs_165   (M : ev_M) : Option (Int32 × ev_M) := some ((iI (0)), M)
theorem sF_X3_familyAs_165   {z0 : Value} {z1 : Value} {z2 : Value} {z3 : Value} {z4 : Value} {z5 : Value} {z6 : Value} {z7 : Value} {z8 : Value} {z9 : Value} {z10 : Value} {M : ev_M} {Q : Nat → Value → ev_M → Prop} {r : (Int32 × ev_M)} (h : F_X3_familyAs_165   M = some r) (hq : Q 0 (.int r.1) r.2) : XP ev_prog b_X3_familyAs_165 [z0, z1, z2, z3, z4, z5, z6, z7, z8, z9, z10] [] M Q := by
  unfold F_X3_familyAs_165 at h
  refine x_kill.mpr ?_
  show XP ev_prog _ [jk, jk, jk, jk, jk, jk, jk, jk, jk, jk, jk] [] M Q
  refine x_iconst.mpr ?_
  cases h
  exact x_ireturn.mpr hq
def F_X3_familyAs_254   (M : ev_M) : Option (Int32 × ev_M) := some ((iI (0)), M)
theorem sF_X3_familyAs_254   {z0 : Value} {z1 : Value} {z2 : Value} {z3 : Value} {z4 : Value} {z5 : Value} {z6 : Value} {z7 : Value} {z8 : Value} {z9 : Value} {z10 : Value} {M : ev_M} {Q : Nat → Value → ev_M → Prop} {r : (Int32 × ev_M)} (h : F_X3_familyAs_254   M = some r) (hq : Q 0 (.int r.1) r.2) : XP ev_prog b_X3_familyAs_254 [z0, z1, z2, z3, z4, z5, z6, z7, z8, z9, z10] [] M Q := by
  unfold F_X3_familyAs_254 at h
  refine x_kill.mpr ?_
  show XP ev_prog _ [jk, jk, jk, jk, jk, jk, jk, jk, jk, jk, jk] [] M Q
  refine x_iconst.mpr ?_
  cases h
  exact x_ireturn.mpr hq
def F_X3_familyAs_322   (M : ev_M) : Option (Int32 × ev_M) := some ((iI (0)), M)
theorem sF_X3_familyAs_322   {z0 : Value} {z1 : Value} {z2 : Value} {z3 : Value} {z4 : Value} {z5 : Value} {z6 : Value} {z7 : Value} {z8 : Value} {z9 : Value} {z10 : Value} {M : ev_M} {Q : Nat → Value → ev_M → Prop} {r : (Int32 × ev_M)} (h : F_X3_familyAs_322   M = some r) (hq : Q 0 (.int r.1) r.2) : XP ev_prog b_X3_familyAs_322 [z0, z1, z2, z3, z4, z5, z6, z7, z8, z9, z10] [] M Q := by
  unfold F_X3_familyAs_322 at h
  refine x_kill.mpr ?_
  show XP ev_prog _ [jk, jk, jk, jk, jk, jk, jk, jk, jk, jk, jk] [] M Q
  refine x_iconst.mpr ?_
  cases h
  exact x_ireturn.mpr hq
def F_X3_familyAs_308   (M : ev_M) : Option (Int32 × ev_M) := some ((iI (1)), M)
theorem sF_X3_familyAs_308   {z0 : Value} {z1 : Value} {z2 : Value} {z3 : Value} {z4 : Value} {z5 : Value} {z6 : Value} {z7 : Value} {z8 : Value} {z9 : Value} {z10 : Value} {M : ev_M} {Q : Nat → Value → ev_M → Prop} {r : (Int32 × ev_M)} (h : F_X3_familyAs_308   M = some r) (hq : Q 0 (.int r.1) r.2) : XP ev_prog b_X3_familyAs_308 [z0, z1, z2, z3, z4, z5, z6, z7, z8, z9, z10] [] M Q := by
  unfold F_X3_familyAs_308 at h
  refine x_kill.mpr ?_
  show XP ev_prog _ [jk, jk, jk, jk, jk, jk, jk, jk, jk, jk, jk] [] M Q
  refine x_iconst.mpr ?_
  cases h
  exact x_ireturn.mpr hq
def F_X3_familyAs_310   (M : ev_M) : Option (Int32 × ev_M) := some ((iI (2)), M)
theorem sF_X3_familyAs_310   {z0 : Value} {z1 : Value} {z2 : Value} {z3 : Value} {z4 : Value} {z5 : Value} {z6 : Value} {z7 : Value} {z8 : Value} {z9 : Value} {z10 : Value} {M : ev_M} {Q : Nat → Value → ev_M → Prop} {r : (Int32 × ev_M)} (h : F_X3_familyAs_310   M = some r) (hq : Q 0 (.int r.1) r.2) : XP ev_prog b_X3_familyAs_310 [z0, z1, z2, z3, z4, z5, z6, z7, z8, z9, z10] [] M Q := by
  unfold F_X3_familyAs_310 at h
  refine x_iconst.mpr ?_
  cases h
  exact x_ireturn.mpr hq
def F_X3_familyAs_312 (i9 : Int32)  (M : ev_M) : Option (Int32 × ev_M) := some ((i9 - (iI (1))), M)
theorem sF_X3_familyAs_312 {i9 : Int32}  {z0 : Value} {z1 : Value} {z2 : Value} {z3 : Value} {z4 : Value} {z5 : Value} {z6 : Value} {z7 : Value} {z8 : Value} {z10 : Value} {M : ev_M} {Q : Nat → Value → ev_M → Prop} {r : (Int32 × ev_M)} (h : F_X3_familyAs_312 i9  M = some r) (hq : Q 0 (.int r.1) r.2) : XP ev_prog b_X3_familyAs_312 [z0, z1, z2, z3, z4, z5, z6, z7, z8, .int i9, z10] [] M Q := by
  unfold F_X3_familyAs_312 at h
  refine x_kill.mpr ?_
  show XP ev_prog _ [jk, jk, jk, jk, jk, jk, jk, jk, jk, .int i9, jk] [] M Q
  refine x_iload9.mpr ?_
  refine x_iconst.mpr ?_
  refine (x_isub).mpr ?_
  cases h
  exact x_ireturn.mpr hq
def F_X3_familyAs_317 (i9 : Int32)  (M : ev_M) : Option (Int32 × ev_M) := some ((i9 - (iI (1))), M)
theorem sF_X3_familyAs_317 {i9 : Int32}  {z0 : Value} {z1 : Value} {z2 : Value} {z3 : Value} {z4 : Value} {z5 : Value} {z6 : Value} {z7 : Value} {z8 : Value} {z10 : Value} {M : ev_M} {Q : Nat → Value → ev_M → Prop} {r : (Int32 × ev_M)} (h : F_X3_familyAs_317 i9  M = some r) (hq : Q 0 (.int r.1) r.2) : XP ev_prog b_X3_familyAs_317 [z0, z1, z2, z3, z4, z5, z6, z7, z8, .int i9, z10] [] M Q := by
  unfold F_X3_familyAs_317 at h
  refine x_kill.mpr ?_
  show XP ev_prog _ [jk, jk, jk, jk, jk, jk, jk, jk, jk, .int i9, jk] [] M Q
  refine x_iload9.mpr ?_
  refine x_iconst.mpr ?_
  refine (x_isub).mpr ?_
  cases h
  exact x_ireturn.mpr hq
def F_X3_familyAs_256 (i9 : Int32)  (M : ev_M) : Option (Int32 × ev_M) := (if Int32.toInt i9 < 0 ∨ 8 < Int32.toInt i9 then F_X3_familyAs_322   M else match (Int32.toInt i9 - 0).toNat with | 0 => F_X3_familyAs_308   M | 1 => F_X3_familyAs_308   M | 2 => F_X3_familyAs_310   M | 3 => F_X3_familyAs_322   M | 4 => F_X3_familyAs_312 i9  M | 5 => F_X3_familyAs_312 i9  M | 6 => F_X3_familyAs_317 i9  M | 7 => F_X3_familyAs_317 i9  M | 8 => F_X3_familyAs_317 i9  M | _ + 9 => F_X3_familyAs_322   M)
theorem sF_X3_familyAs_256 {i9 : Int32}  {z0 : Value} {z1 : Value} {z2 : Value} {z3 : Value} {z4 : Value} {z5 : Value} {z6 : Value} {z7 : Value} {z8 : Value} {z10 : Value} {M : ev_M} {Q : Nat → Value → ev_M → Prop} {r : (Int32 × ev_M)} (h : F_X3_familyAs_256 i9  M = some r) (hq : Q 0 (.int r.1) r.2) : XP ev_prog b_X3_familyAs_256 [z0, z1, z2, z3, z4, z5, z6, z7, z8, .int i9, z10] [] M Q := by
  unfold F_X3_familyAs_256 at h
  refine x_kill.mpr ?_
  show XP ev_prog _ [jk, jk, jk, jk, jk, jk, jk, jk, jk, .int i9, jk] [] M Q
  refine x_iload9.mpr ?_
  refine x_tsw.mpr ?_
  rcases ife h with ⟨hc, h⟩ | ⟨hc, h⟩
  · rw [if_pos hc, bk_X3_familyAs_322]
    exact sF_X3_familyAs_322 h hq
  · rw [if_neg hc]
    generalize (Int32.toInt i9 - 0).toNat = n at h ⊢
    match n, h with
    | 0, h =>
      show XP ev_prog (ev_prog.1 708916) _ _ M Q
      rw [bk_X3_familyAs_308]
      exact sF_X3_familyAs_308 h hq
    | 1, h =>
      show XP ev_prog (ev_prog.1 708916) _ _ M Q
      rw [bk_X3_familyAs_308]
      exact sF_X3_familyAs_308 h hq
    | 2, h =>
      show XP ev_prog (ev_prog.1 708918) _ _ M Q
      rw [bk_X3_familyAs_310]
      exact sF_X3_familyAs_310 h hq
    | 3, h =>
      show XP ev_prog (ev_prog.1 708930) _ _ M Q
      rw [bk_X3_familyAs_322]
      exact sF_X3_familyAs_322 h hq
    | 4, h =>
      show XP ev_prog (ev_prog.1 708920) _ _ M Q
      rw [bk_X3_familyAs_312]
      exact sF_X3_familyAs_312 h hq
    | 5, h =>
      show XP ev_prog (ev_prog.1 708920) _ _ M Q
      rw [bk_X3_familyAs_312]
      exact sF_X3_familyAs_312 h hq
    | 6, h =>
      show XP ev_prog (ev_prog.1 708925) _ _ M Q
      rw [bk_X3_familyAs_317]
      exact sF_X3_familyAs_317 h hq
    | 7, h =>
      show XP ev_prog (ev_prog.1 708925) _ _ M Q
      rw [bk_X3_familyAs_317]
      exact sF_X3_familyAs_317 h hq
    | 8, h =>
      show XP ev_prog (ev_prog.1 708925) _ _ M Q
      rw [bk_X3_familyAs_317]
      exact sF_X3_familyAs_317 h hq
    | n + 9, h =>
      show XP ev_prog (ev_prog.1 708930) _ _ _ Q
      rw [bk_X3_familyAs_322]
      exact sF_X3_familyAs_322 h hq
def F_X3_familyAs_226 (i5 : Int32) (i7 : Int32) (i8 : Int32) (i9 : Int32) (i10 : Int32)  (M : ev_M) : Option (Int32 × ev_M) := (if (iI (1)) < i8 then F_X3_familyAs_254   M else (if i10 = 0 then F_X3_familyAs_256 i9  M else (if ¬ i7 = 0 then F_X3_familyAs_256 i9  M else (if ¬ i8 = (iI (1)) then F_X3_familyAs_256 i9  M else (if i5 = (iI (-1)) then F_X3_familyAs_256 i9  M else F_X3_familyAs_254   M)))))
theorem sF_X3_familyAs_226 {i5 : Int32} {i7 : Int32} {i8 : Int32} {i9 : Int32} {i10 : Int32}  {z0 : Value} {z1 : Value} {z2 : Value} {z3 : Value} {z4 : Value} {z6 : Value} {M : ev_M} {Q : Nat → Value → ev_M → Prop} {r : (Int32 × ev_M)} (h : F_X3_familyAs_226 i5 i7 i8 i9 i10  M = some r) (hq : Q 0 (.int r.1) r.2) : XP ev_prog b_X3_familyAs_226 [z0, z1, z2, z3, z4, .int i5, z6, .int i7, .int i8, .int i9, .int i10] [] M Q := by
  unfold F_X3_familyAs_226 at h
  refine x_iload8.mpr ?_
  refine x_iconst.mpr ?_
  rcases ife h with ⟨hc, h⟩ | ⟨hc, h⟩
  · rw [x_icmp_gt, if_pos hc, bk_X3_familyAs_254]
    exact sF_X3_familyAs_254 h hq
  · rw [x_icmp_gt, if_neg hc]
    refine x_iload10.mpr ?_
    rcases ife h with ⟨hc, h⟩ | ⟨hc, h⟩
    · rw [x_if_eq, if_pos hc, bk_X3_familyAs_256]
      exact sF_X3_familyAs_256 h hq
    · rw [x_if_eq, if_neg hc]
      refine x_iload7.mpr ?_
      rcases ife h with ⟨hc, h⟩ | ⟨hc, h⟩
      · rw [x_if_ne, if_pos hc, bk_X3_familyAs_256]
        exact sF_X3_familyAs_256 h hq
      · rw [x_if_ne, if_neg hc]
        refine x_iload8.mpr ?_
        refine x_iconst.mpr ?_
        rcases ife h with ⟨hc, h⟩ | ⟨hc, h⟩
        · rw [x_icmp_ne, if_pos hc, bk_X3_familyAs_256]
          exact sF_X3_familyAs_256 h hq
        · rw [x_icmp_ne, if_neg hc]
          refine x_iload5.mpr ?_
          refine x_iconst.mpr ?_
          rcases ife h with ⟨hc, h⟩ | ⟨hc, h⟩
          · rw [x_icmp_eq, if_pos hc, bk_X3_familyAs_256]
            exact sF_X3_familyAs_256 h hq
          · rw [x_icmp_eq, if_neg hc]
            refine x_fall.mpr ?_
            rw [bk_X3_familyAs_254]
            exact sF_X3_familyAs_254 h hq
def F_X3_familyAs_225  (s0 : Int32) (M : ev_M) : Option (Int32 × ev_M) := some (s0, M)
theorem sF_X3_familyAs_225  {s0 : Int32} {z0 : Value} {z1 : Value} {z2 : Value} {z3 : Value} {z4 : Value} {z5 : Value} {z6 : Value} {z7 : Value} {z8 : Value} {z9 : Value} {z10 : Value} {M : ev_M} {Q : Nat → Value → ev_M → Prop} {r : (Int32 × ev_M)} (h : F_X3_familyAs_225  s0 M = some r) (hq : Q 0 (.int r.1) r.2) : XP ev_prog b_X3_familyAs_225 [z0, z1, z2, z3, z4, z5, z6, z7, z8, z9, z10] [.int s0] M Q := by
  unfold F_X3_familyAs_225 at h
  refine x_kill.mpr ?_
  show XP ev_prog _ [jk, jk, jk, jk, jk, jk, jk, jk, jk, jk, jk] [.int s0] M Q
  cases h
  exact x_ireturn.mpr hq
def F_X3_familyAs_224   (M : ev_M) : Option (Int32 × ev_M) := F_X3_familyAs_225  (iI (0)) M
theorem sF_X3_familyAs_224   {z0 : Value} {z1 : Value} {z2 : Value} {z3 : Value} {z4 : Value} {z5 : Value} {z6 : Value} {z7 : Value} {z8 : Value} {z9 : Value} {z10 : Value} {M : ev_M} {Q : Nat → Value → ev_M → Prop} {r : (Int32 × ev_M)} (h : F_X3_familyAs_224   M = some r) (hq : Q 0 (.int r.1) r.2) : XP ev_prog b_X3_familyAs_224 [z0, z1, z2, z3, z4, z5, z6, z7, z8, z9, z10] [] M Q := by
  unfold F_X3_familyAs_224 at h
  refine x_kill.mpr ?_
  show XP ev_prog _ [jk, jk, jk, jk, jk, jk, jk, jk, jk, jk, jk] [] M Q
  refine x_iconst.mpr ?_
  refine x_fall.mpr ?_
  rw [bk_X3_familyAs_225]
  exact sF_X3_familyAs_225 h hq
def F_X3_familyAs_217 (i9 : Int32)  (M : ev_M) : Option (Int32 × ev_M) := F_X3_familyAs_225  (i9 - (iI (1))) M
theorem sF_X3_familyAs_217 {i9 : Int32}  {z0 : Value} {z1 : Value} {z2 : Value} {z3 : Value} {z4 : Value} {z5 : Value} {z6 : Value} {z7 : Value} {z8 : Value} {z10 : Value} {M : ev_M} {Q : Nat → Value → ev_M → Prop} {r : (Int32 × ev_M)} (h : F_X3_familyAs_217 i9  M = some r) (hq : Q 0 (.int r.1) r.2) : XP ev_prog b_X3_familyAs_217 [z0, z1, z2, z3, z4, z5, z6, z7, z8, .int i9, z10] [] M Q := by
  unfold F_X3_familyAs_217 at h
  refine x_kill.mpr ?_
  show XP ev_prog _ [jk, jk, jk, jk, jk, jk, jk, jk, jk, .int i9, jk] [] M Q
  refine x_iload9.mpr ?_
  refine x_iconst.mpr ?_
  refine (x_isub).mpr ?_
  refine x_goto.mpr ?_
  rw [bk_X3_familyAs_225]
  exact sF_X3_familyAs_225 h hq
def F_X3_familyAs_192 (i5 : Int32) (i7 : Int32) (i8 : Int32) (i9 : Int32) (s0 : Int32) (M : ev_M) : Option (Int32 × ev_M) := (if i7 ≤ (iI (1)) then F_X3_familyAs_226 i5 i7 i8 i9 s0  M else (if s0 = 0 then F_X3_familyAs_224   M else (if i7 = (iI (3)) then F_X3_familyAs_217 i9  M else (if i8 = (iI (3)) then F_X3_familyAs_224   M else F_X3_familyAs_217 i9  M))))
theorem sF_X3_familyAs_192 {i5 : Int32} {i7 : Int32} {i8 : Int32} {i9 : Int32} {s0 : Int32} {z0 : Value} {z1 : Value} {z2 : Value} {z3 : Value} {z4 : Value} {z6 : Value} {z10 : Value} {M : ev_M} {Q : Nat → Value → ev_M → Prop} {r : (Int32 × ev_M)} (h : F_X3_familyAs_192 i5 i7 i8 i9 s0 M = some r) (hq : Q 0 (.int r.1) r.2) : XP ev_prog b_X3_familyAs_192 [z0, z1, z2, z3, z4, .int i5, z6, .int i7, .int i8, .int i9, z10] [.int s0] M Q := by
  unfold F_X3_familyAs_192 at h
  refine x_kill.mpr ?_
  show XP ev_prog _ [jk, jk, jk, jk, jk, .int i5, jk, .int i7, .int i8, .int i9, jk] [.int s0] M Q
  refine x_istore10.mpr ?_
  refine x_iload7.mpr ?_
  refine x_iconst.mpr ?_
  rcases ife h with ⟨hc, h⟩ | ⟨hc, h⟩
  · rw [x_icmp_le, if_pos hc, bk_X3_familyAs_226]
    exact sF_X3_familyAs_226 h hq
  · rw [x_icmp_le, if_neg hc]
    refine x_iload10.mpr ?_
    rcases ife h with ⟨hc, h⟩ | ⟨hc, h⟩
    · rw [x_if_eq, if_pos hc, bk_X3_familyAs_224]
      exact sF_X3_familyAs_224 h hq
    · rw [x_if_eq, if_neg hc]
      refine x_iload7.mpr ?_
      refine x_iconst.mpr ?_
      rcases ife h with ⟨hc, h⟩ | ⟨hc, h⟩
      · rw [x_icmp_eq, if_pos hc, bk_X3_familyAs_217]
        exact sF_X3_familyAs_217 h hq
      · rw [x_icmp_eq, if_neg hc]
        refine x_iload8.mpr ?_
        refine x_iconst.mpr ?_
        rcases ife h with ⟨hc, h⟩ | ⟨hc, h⟩
        · rw [x_icmp_eq, if_pos hc, bk_X3_familyAs_224]
          exact sF_X3_familyAs_224 h hq
        · rw [x_icmp_eq, if_neg hc]
          refine x_fall.mpr ?_
          rw [bk_X3_familyAs_217]
          exact sF_X3_familyAs_217 h hq
def F_X3_familyAs_187 (i5 : Int32) (i7 : Int32) (i8 : Int32) (i9 : Int32)  (M : ev_M) : Option (Int32 × ev_M) := F_X3_familyAs_192 i5 i7 i8 i9 (iI (1)) M
theorem sF_X3_familyAs_187 {i5 : Int32} {i7 : Int32} {i8 : Int32} {i9 : Int32}  {z0 : Value} {z1 : Value} {z2 : Value} {z3 : Value} {z4 : Value} {z6 : Value} {z10 : Value} {M : ev_M} {Q : Nat → Value → ev_M → Prop} {r : (Int32 × ev_M)} (h : F_X3_familyAs_187 i5 i7 i8 i9  M = some r) (hq : Q 0 (.int r.1) r.2) : XP ev_prog b_X3_familyAs_187 [z0, z1, z2, z3, z4, .int i5, z6, .int i7, .int i8, .int i9, z10] [] M Q := by
  unfold F_X3_familyAs_187 at h
  refine x_kill.mpr ?_
  show XP ev_prog _ [jk, jk, jk, jk, jk, .int i5, jk, .int i7, .int i8, .int i9, jk] [] M Q
  refine x_iconst.mpr ?_
  refine x_goto.mpr ?_
  rw [bk_X3_familyAs_192]
  exact sF_X3_familyAs_192 h hq
def F_X3_familyAs_191 (i5 : Int32) (i7 : Int32) (i8 : Int32) (i9 : Int32)  (M : ev_M) : Option (Int32 × ev_M) := F_X3_familyAs_192 i5 i7 i8 i9 (iI (0)) M
theorem sF_X3_familyAs_191 {i5 : Int32} {i7 : Int32} {i8 : Int32} {i9 : Int32}  {z0 : Value} {z1 : Value} {z2 : Value} {z3 : Value} {z4 : Value} {z6 : Value} {z10 : Value} {M : ev_M} {Q : Nat → Value → ev_M → Prop} {r : (Int32 × ev_M)} (h : F_X3_familyAs_191 i5 i7 i8 i9  M = some r) (hq : Q 0 (.int r.1) r.2) : XP ev_prog b_X3_familyAs_191 [z0, z1, z2, z3, z4, .int i5, z6, .int i7, .int i8, .int i9, z10] [] M Q := by
  unfold F_X3_familyAs_191 at h
  refine x_iconst.mpr ?_
  refine x_fall.mpr ?_
  rw [bk_X3_familyAs_192]
  exact sF_X3_familyAs_192 h hq
def F_X3_familyAs_167 (a0 : Nat) (i1 : Int32) (i5 : Int32) (i7 : Int32) (i8 : Int32)  (M : ev_M) : Option (Int32 × ev_M) := (if ([2] : List Nat).contains (mK M a0) = true then (if ev_isI (mK M (mA M a0 8)) = true ∧ ev_in i1 (mN M (mA M a0 8)) = true then (if (mI M (mA M a0 8) (ev_ix i1)) = (iI (4)) then F_X3_familyAs_187 i5 i7 i8 (mI M (mA M a0 8) (ev_ix i1))  M else (if ¬ (mI M (mA M a0 8) (ev_ix i1)) = (iI (5)) then F_X3_familyAs_191 i5 i7 i8 (mI M (mA M a0 8) (ev_ix i1))  M else F_X3_familyAs_187 i5 i7 i8 (mI M (mA M a0 8) (ev_ix i1))  M)) else none) else none)
theorem sF_X3_familyAs_167 {a0 : Nat} {i1 : Int32} {i5 : Int32} {i7 : Int32} {i8 : Int32}  {z2 : Value} {z3 : Value} {z4 : Value} {z6 : Value} {z9 : Value} {z10 : Value} {M : ev_M} {Q : Nat → Value → ev_M → Prop} {r : (Int32 × ev_M)} (h : F_X3_familyAs_167 a0 i1 i5 i7 i8  M = some r) (hq : Q 0 (.int r.1) r.2) : XP ev_prog b_X3_familyAs_167 [.ref a0, .int i1, z2, z3, z4, .int i5, z6, .int i7, .int i8, z9, z10] [] M Q := by
  unfold F_X3_familyAs_167 at h
  refine x_aloadn0.mpr ?_
  obtain ⟨hc, h⟩ := gd h
  refine (x_getf4 hc).mpr ?_
  refine x_iloadn1.mpr ?_
  obtain ⟨hc, h⟩ := gd h
  refine (x_iaload hc.1 hc.2).mpr ?_
  refine x_istore9.mpr ?_
  refine x_iload9.mpr ?_
  refine x_iconst.mpr ?_
  rcases ife h with ⟨hc, h⟩ | ⟨hc, h⟩
  · rw [x_icmp_eq, if_pos hc, bk_X3_familyAs_187]
    exact sF_X3_familyAs_187 h hq
  · rw [x_icmp_eq, if_neg hc]
    refine x_iload9.mpr ?_
    refine x_iconst.mpr ?_
    rcases ife h with ⟨hc, h⟩ | ⟨hc, h⟩
    · rw [x_icmp_ne, if_pos hc, bk_X3_familyAs_191]
      exact sF_X3_familyAs_191 h hq
    · rw [x_icmp_ne, if_neg hc]
      refine x_fall.mpr ?_
      rw [bk_X3_familyAs_187]
      exact sF_X3_familyAs_187 h hq
def F_X3_familyAs_135 (a0 : Nat) (i1 : Int32) (i4 : Int32) (i5 : Int32) (i6 : Int32) (i7 : Int32) (s0 : Int32) (M : ev_M) : Option (Int32 × ev_M) := (if i6 = 0 then F_X3_familyAs_165   M else (f_X3_isNumbers i7 M).bind fun r144_1 => (if r144_1.1 = 0 then F_X3_familyAs_165   r144_1.2 else (f_X3_isNumbers s0 r144_1.2).bind fun r152_1 => (if r152_1.1 = 0 then F_X3_familyAs_165   r152_1.2 else (if ¬ i5 = i4 then F_X3_familyAs_167 a0 i1 i5 i7 s0  r152_1.2 else F_X3_familyAs_165   r152_1.2))))
theorem sF_X3_familyAs_135 {a0 : Nat} {i1 : Int32} {i4 : Int32} {i5 : Int32} {i6 : Int32} {i7 : Int32} {s0 : Int32} {z2 : Value} {z3 : Value} {z8 : Value} {z9 : Value} {z10 : Value} {M : ev_M} {Q : Nat → Value → ev_M → Prop} {r : (Int32 × ev_M)} (h : F_X3_familyAs_135 a0 i1 i4 i5 i6 i7 s0 M = some r) (hq : Q 0 (.int r.1) r.2) : XP ev_prog b_X3_familyAs_135 [.ref a0, .int i1, z2, z3, .int i4, .int i5, .int i6, .int i7, z8, z9, z10] [.int s0] M Q := by
  unfold F_X3_familyAs_135 at h
  refine x_kill.mpr ?_
  show XP ev_prog _ [.ref a0, .int i1, jk, jk, .int i4, .int i5, .int i6, .int i7, jk, jk, jk] [.int s0] M Q
  refine x_istore8.mpr ?_
  refine x_iload6.mpr ?_
  rcases ife h with ⟨hc, h⟩ | ⟨hc, h⟩
  · rw [x_if_eq, if_pos hc, bk_X3_familyAs_165]
    exact sF_X3_familyAs_165 h hq
  · rw [x_if_eq, if_neg hc]
    refine x_iload7.mpr ?_
    obtain ⟨r144_1, hz, h⟩ := Option.bind_eq_some_iff.mp h
    refine (y_stat1 ml_X3_isNumbers (by show 1 ≤ 1; decide) (by decide) (by decide) (by show ¬ 8 < 0; decide)).mpr ?_
    refine sf_X3_isNumbers hz ?_
    refine xk0.mpr ?_
    show XP ev_prog _ _ (.int r144_1.1 :: _) r144_1.2 Q
    rcases ife h with ⟨hc, h⟩ | ⟨hc, h⟩
    · rw [x_if_eq, if_pos hc, bk_X3_familyAs_165]
      exact sF_X3_familyAs_165 h hq
    · rw [x_if_eq, if_neg hc]
      refine x_iload8.mpr ?_
      obtain ⟨r152_1, hz, h⟩ := Option.bind_eq_some_iff.mp h
      refine (y_stat1 ml_X3_isNumbers (by show 1 ≤ 1; decide) (by decide) (by decide) (by show ¬ 8 < 0; decide)).mpr ?_
      refine sf_X3_isNumbers hz ?_
      refine xk0.mpr ?_
      show XP ev_prog _ _ (.int r152_1.1 :: _) r152_1.2 Q
      rcases ife h with ⟨hc, h⟩ | ⟨hc, h⟩
      · rw [x_if_eq, if_pos hc, bk_X3_familyAs_165]
        exact sF_X3_familyAs_165 h hq
      · rw [x_if_eq, if_neg hc]
        refine x_iload5.mpr ?_
        refine x_iload4.mpr ?_
        rcases ife h with ⟨hc, h⟩ | ⟨hc, h⟩
        · rw [x_icmp_ne, if_pos hc, bk_X3_familyAs_167]
          exact sF_X3_familyAs_167 h hq
        · rw [x_icmp_ne, if_neg hc]
          refine x_fall.mpr ?_
          rw [bk_X3_familyAs_165]
          exact sF_X3_familyAs_165 h hq
def F_X3_familyAs_127 (a0 : Nat) (i1 : Int32) (i2 : Int32) (i3 : Int32) (i4 : Int32) (i5 : Int32) (i6 : Int32) (i7 : Int32)  (M : ev_M) : Option (Int32 × ev_M) := (if ¬ a0 = 0 ∧ mK M a0 = 2 then (f_X3_formAs a0 i5 i2 i3 M).bind fun r132_1 => F_X3_familyAs_135 a0 i1 i4 i5 i6 i7 r132_1.1 r132_1.2 else none)
theorem sF_X3_familyAs_127 {a0 : Nat} {i1 : Int32} {i2 : Int32} {i3 : Int32} {i4 : Int32} {i5 : Int32} {i6 : Int32} {i7 : Int32}  {z8 : Value} {z9 : Value} {z10 : Value} {M : ev_M} {Q : Nat → Value → ev_M → Prop} {r : (Int32 × ev_M)} (h : F_X3_familyAs_127 a0 i1 i2 i3 i4 i5 i6 i7  M = some r) (hq : Q 0 (.int r.1) r.2) : XP ev_prog b_X3_familyAs_127 [.ref a0, .int i1, .int i2, .int i3, .int i4, .int i5, .int i6, .int i7, z8, z9, z10] [] M Q := by
  unfold F_X3_familyAs_127 at h
  refine x_aloadn0.mpr ?_
  refine x_iload5.mpr ?_
  refine x_iloadn2.mpr ?_
  refine x_iloadn3.mpr ?_
  obtain ⟨hc, h⟩ := gd h
  obtain ⟨r132_1, hz, h⟩ := Option.bind_eq_some_iff.mp h
  refine (y_virt4 ml_X3_formAs (by show 4 ≤ 4; decide) hc.1 hc.2 rfl (by decide) (by show ¬ 8 < 0; decide)).mpr ?_
  refine sf_X3_formAs hz ?_
  refine xk0.mpr ?_
  show XP ev_prog _ _ (.int r132_1.1 :: _) r132_1.2 Q
  refine x_fall.mpr ?_
  rw [bk_X3_familyAs_135]
  exact sF_X3_familyAs_135 h hq
def F_X3_familyAs_105 (a0 : Nat) (i1 : Int32) (i2 : Int32) (i3 : Int32) (i4 : Int32) (i5 : Int32) (s0 : Int32) (M : ev_M) : Option (Int32 × ev_M) := (if ¬ a0 = 0 ∧ mK M a0 = 2 then (f_X3_formAs a0 i4 i2 i3 M).bind fun r112_1 => (if ¬ i5 = (iI (-1)) then F_X3_familyAs_127 a0 i1 i2 i3 i4 i5 s0 r112_1.1  r112_1.2 else F_X3_familyAs_135 a0 i1 i4 i5 s0 r112_1.1 (iI (1)) r112_1.2) else none)
theorem sF_X3_familyAs_105 {a0 : Nat} {i1 : Int32} {i2 : Int32} {i3 : Int32} {i4 : Int32} {i5 : Int32} {s0 : Int32} {z6 : Value} {z7 : Value} {z8 : Value} {z9 : Value} {z10 : Value} {M : ev_M} {Q : Nat → Value → ev_M → Prop} {r : (Int32 × ev_M)} (h : F_X3_familyAs_105 a0 i1 i2 i3 i4 i5 s0 M = some r) (hq : Q 0 (.int r.1) r.2) : XP ev_prog b_X3_familyAs_105 [.ref a0, .int i1, .int i2, .int i3, .int i4, .int i5, z6, z7, z8, z9, z10] [.int s0] M Q := by
  unfold F_X3_familyAs_105 at h
  refine x_kill.mpr ?_
  show XP ev_prog _ [.ref a0, .int i1, .int i2, .int i3, .int i4, .int i5, jk, jk, jk, jk, jk] [.int s0] M Q
  refine x_istore6.mpr ?_
  refine x_aloadn0.mpr ?_
  refine x_iload4.mpr ?_
  refine x_iloadn2.mpr ?_
  refine x_iloadn3.mpr ?_
  obtain ⟨hc, h⟩ := gd h
  obtain ⟨r112_1, hz, h⟩ := Option.bind_eq_some_iff.mp h
  refine (y_virt4 ml_X3_formAs (by show 4 ≤ 4; decide) hc.1 hc.2 rfl (by decide) (by show ¬ 8 < 0; decide)).mpr ?_
  refine sf_X3_formAs hz ?_
  refine xk0.mpr ?_
  show XP ev_prog _ _ (.int r112_1.1 :: _) r112_1.2 Q
  refine x_istore7.mpr ?_
  refine x_iload5.mpr ?_
  refine x_iconst.mpr ?_
  rcases ife h with ⟨hc, h⟩ | ⟨hc, h⟩
  · rw [x_icmp_ne, if_pos hc, bk_X3_familyAs_127]
    exact sF_X3_familyAs_127 h hq
  · rw [x_icmp_ne, if_neg hc]
    refine x_iconst.mpr ?_
    refine x_goto.mpr ?_
    rw [bk_X3_familyAs_135]
    exact sF_X3_familyAs_135 h hq
def F_X3_familyAs_104 (a0 : Nat) (i1 : Int32) (i2 : Int32) (i3 : Int32) (i4 : Int32) (i5 : Int32)  (M : ev_M) : Option (Int32 × ev_M) := F_X3_familyAs_105 a0 i1 i2 i3 i4 i5 (iI (0)) M
theorem sF_X3_familyAs_104 {a0 : Nat} {i1 : Int32} {i2 : Int32} {i3 : Int32} {i4 : Int32} {i5 : Int32}  {z6 : Value} {z7 : Value} {z8 : Value} {z9 : Value} {z10 : Value} {M : ev_M} {Q : Nat → Value → ev_M → Prop} {r : (Int32 × ev_M)} (h : F_X3_familyAs_104 a0 i1 i2 i3 i4 i5  M = some r) (hq : Q 0 (.int r.1) r.2) : XP ev_prog b_X3_familyAs_104 [.ref a0, .int i1, .int i2, .int i3, .int i4, .int i5, z6, z7, z8, z9, z10] [] M Q := by
  unfold F_X3_familyAs_104 at h
  refine x_kill.mpr ?_
  show XP ev_prog _ [.ref a0, .int i1, .int i2, .int i3, .int i4, .int i5, jk, jk, jk, jk, jk] [] M Q
  refine x_iconst.mpr ?_
  refine x_fall.mpr ?_
  rw [bk_X3_familyAs_105]
  exact sF_X3_familyAs_105 h hq
def F_X3_familyAs_0 (a0 : Nat) (i1 : Int32) (i2 : Int32) (i3 : Int32)  (M : ev_M) : Option (Int32 × ev_M) := (if ([2] : List Nat).contains (mK M a0) = true then (if ev_isI (mK M (mA M a0 13)) = true ∧ ev_in ((iI (3)) * i1) (mN M (mA M a0 13)) = true then (if ([2] : List Nat).contains (mK M a0) = true then (if ev_isI (mK M (mA M a0 13)) = true ∧ ev_in (((iI (3)) * i1) + (iI (2))) (mN M (mA M a0 13)) = true then (if ([2] : List Nat).contains (mK M a0) = true then (if ev_isI (mK M (mA M a0 13)) = true ∧ ev_in (((iI (3)) * i1) + (iI (1))) (mN M (mA M a0 13)) = true then (if ¬ (mI M (mA M a0 13) (ev_ix (((iI (3)) * i1) + (iI (1))))) = (mI M (mA M a0 13) (ev_ix ((iI (3)) * i1))) then F_X3_familyAs_104 a0 i1 i2 i3 (mI M (mA M a0 13) (ev_ix ((iI (3)) * i1))) (mI M (mA M a0 13) (ev_ix (((iI (3)) * i1) + (iI (2)))))  M else (if ([2] : List Nat).contains (mK M a0) = true then (if ev_isI (mK M (mA M a0 14)) = true ∧ ev_in ((iI (3)) * i1) (mN M (mA M a0 14)) = true then (if ([2] : List Nat).contains (mK M a0) = true then (if ev_isI (mK M (mA M a0 14)) = true ∧ ev_in (((iI (3)) * i1) + (iI (1))) (mN M (mA M a0 14)) = true then (if ¬ (mI M (mA M a0 14) (ev_ix ((iI (3)) * i1))) = (mI M (mA M a0 14) (ev_ix (((iI (3)) * i1) + (iI (1))))) then F_X3_familyAs_104 a0 i1 i2 i3 (mI M (mA M a0 13) (ev_ix ((iI (3)) * i1))) (mI M (mA M a0 13) (ev_ix (((iI (3)) * i1) + (iI (2)))))  M else (if ([2] : List Nat).contains (mK M a0) = true then (if ev_isI (mK M (mA M a0 15)) = true ∧ ev_in ((iI (3)) * i1) (mN M (mA M a0 15)) = true then (if ([2] : List Nat).contains (mK M a0) = true then (if ev_isI (mK M (mA M a0 15)) = true ∧ ev_in (((iI (3)) * i1) + (iI (1))) (mN M (mA M a0 15)) = true then (if ¬ (mI M (mA M a0 15) (ev_ix ((iI (3)) * i1))) = (mI M (mA M a0 15) (ev_ix (((iI (3)) * i1) + (iI (1))))) then F_X3_familyAs_104 a0 i1 i2 i3 (mI M (mA M a0 13) (ev_ix ((iI (3)) * i1))) (mI M (mA M a0 13) (ev_ix (((iI (3)) * i1) + (iI (2)))))  M else (if ([2] : List Nat).contains (mK M a0) = true then (if ev_isI (mK M (mA M a0 16)) = true ∧ ev_in ((iI (3)) * i1) (mN M (mA M a0 16)) = true then (if ([2] : List Nat).contains (mK M a0) = true then (if ev_isI (mK M (mA M a0 16)) = true ∧ ev_in (((iI (3)) * i1) + (iI (1))) (mN M (mA M a0 16)) = true then (if ¬ (mI M (mA M a0 16) (ev_ix ((iI (3)) * i1))) = (mI M (mA M a0 16) (ev_ix (((iI (3)) * i1) + (iI (1))))) then F_X3_familyAs_104 a0 i1 i2 i3 (mI M (mA M a0 13) (ev_ix ((iI (3)) * i1))) (mI M (mA M a0 13) (ev_ix (((iI (3)) * i1) + (iI (2)))))  M else F_X3_familyAs_105 a0 i1 i2 i3 (mI M (mA M a0 13) (ev_ix ((iI (3)) * i1))) (mI M (mA M a0 13) (ev_ix (((iI (3)) * i1) + (iI (2))))) (iI (1)) M) else none) else none) else none) else none)) else none) else none) else none) else none)) else none) else none) else none) else none)) else none) else none) else none) else none) else none) else none)
theorem sF_X3_familyAs_0 {a0 : Nat} {i1 : Int32} {i2 : Int32} {i3 : Int32}  {z4 : Value} {z5 : Value} {z6 : Value} {z7 : Value} {z8 : Value} {z9 : Value} {z10 : Value} {M : ev_M} {Q : Nat → Value → ev_M → Prop} {r : (Int32 × ev_M)} (h : F_X3_familyAs_0 a0 i1 i2 i3  M = some r) (hq : Q 0 (.int r.1) r.2) : XP ev_prog b_X3_familyAs_0 [.ref a0, .int i1, .int i2, .int i3, z4, z5, z6, z7, z8, z9, z10] [] M Q := by
  unfold F_X3_familyAs_0 at h
  refine x_aloadn0.mpr ?_
  obtain ⟨hc, h⟩ := gd h
  refine (x_getf4 hc).mpr ?_
  refine x_iconst.mpr ?_
  refine x_iloadn1.mpr ?_
  refine (x_imul).mpr ?_
  obtain ⟨hc, h⟩ := gd h
  refine (x_iaload hc.1 hc.2).mpr ?_
  refine x_istore4.mpr ?_
  refine x_aloadn0.mpr ?_
  obtain ⟨hc, h⟩ := gd h
  refine (x_getf4 hc).mpr ?_
  refine x_iconst.mpr ?_
  refine x_iloadn1.mpr ?_
  refine (x_imul).mpr ?_
  refine x_iconst.mpr ?_
  refine (x_iadd).mpr ?_
  obtain ⟨hc, h⟩ := gd h
  refine (x_iaload hc.1 hc.2).mpr ?_
  refine x_istore5.mpr ?_
  refine x_aloadn0.mpr ?_
  obtain ⟨hc, h⟩ := gd h
  refine (x_getf4 hc).mpr ?_
  refine x_iconst.mpr ?_
  refine x_iloadn1.mpr ?_
  refine (x_imul).mpr ?_
  refine x_iconst.mpr ?_
  refine (x_iadd).mpr ?_
  obtain ⟨hc, h⟩ := gd h
  refine (x_iaload hc.1 hc.2).mpr ?_
  refine x_iload4.mpr ?_
  rcases ife h with ⟨hc, h⟩ | ⟨hc, h⟩
  · rw [x_icmp_ne, if_pos hc, bk_X3_familyAs_104]
    exact sF_X3_familyAs_104 h hq
  · rw [x_icmp_ne, if_neg hc]
    refine x_aloadn0.mpr ?_
    obtain ⟨hc, h⟩ := gd h
    refine (x_getf4 hc).mpr ?_
    refine x_iconst.mpr ?_
    refine x_iloadn1.mpr ?_
    refine (x_imul).mpr ?_
    obtain ⟨hc, h⟩ := gd h
    refine (x_iaload hc.1 hc.2).mpr ?_
    refine x_aloadn0.mpr ?_
    obtain ⟨hc, h⟩ := gd h
    refine (x_getf4 hc).mpr ?_
    refine x_iconst.mpr ?_
    refine x_iloadn1.mpr ?_
    refine (x_imul).mpr ?_
    refine x_iconst.mpr ?_
    refine (x_iadd).mpr ?_
    obtain ⟨hc, h⟩ := gd h
    refine (x_iaload hc.1 hc.2).mpr ?_
    rcases ife h with ⟨hc, h⟩ | ⟨hc, h⟩
    · rw [x_icmp_ne, if_pos hc, bk_X3_familyAs_104]
      exact sF_X3_familyAs_104 h hq
    · rw [x_icmp_ne, if_neg hc]
      refine x_aloadn0.mpr ?_
      obtain ⟨hc, h⟩ := gd h
      refine (x_getf4 hc).mpr ?_
      refine x_iconst.mpr ?_
      refine x_iloadn1.mpr ?_
      refine (x_imul).mpr ?_
      obtain ⟨hc, h⟩ := gd h
      refine (x_iaload hc.1 hc.2).mpr ?_
      refine x_aloadn0.mpr ?_
      obtain ⟨hc, h⟩ := gd h
      refine (x_getf4 hc).mpr ?_
      refine x_iconst.mpr ?_
      refine x_iloadn1.mpr ?_
      refine (x_imul).mpr ?_
      refine x_iconst.mpr ?_
      refine (x_iadd).mpr ?_
      obtain ⟨hc, h⟩ := gd h
      refine (x_iaload hc.1 hc.2).mpr ?_
      rcases ife h with ⟨hc, h⟩ | ⟨hc, h⟩
      · rw [x_icmp_ne, if_pos hc, bk_X3_familyAs_104]
        exact sF_X3_familyAs_104 h hq
      · rw [x_icmp_ne, if_neg hc]
        refine x_aloadn0.mpr ?_
        obtain ⟨hc, h⟩ := gd h
        refine (x_getf4 hc).mpr ?_
        refine x_iconst.mpr ?_
        refine x_iloadn1.mpr ?_
        refine (x_imul).mpr ?_
        obtain ⟨hc, h⟩ := gd h
        refine (x_iaload hc.1 hc.2).mpr ?_
        refine x_aloadn0.mpr ?_
        obtain ⟨hc, h⟩ := gd h
        refine (x_getf4 hc).mpr ?_
        refine x_iconst.mpr ?_
        refine x_iloadn1.mpr ?_
        refine (x_imul).mpr ?_
        refine x_iconst.mpr ?_
        refine (x_iadd).mpr ?_
        obtain ⟨hc, h⟩ := gd h
        refine (x_iaload hc.1 hc.2).mpr ?_
        rcases ife h with ⟨hc, h⟩ | ⟨hc, h⟩
        · rw [x_icmp_ne, if_pos hc, bk_X3_familyAs_104]
          exact sF_X3_familyAs_104 h hq
        · rw [x_icmp_ne, if_neg hc]
          refine x_iconst.mpr ?_
          refine x_goto.mpr ?_
          rw [bk_X3_familyAs_105]
          exact sF_X3_familyAs_105 h hq
def f_X3_familyAs (a0 : Nat) (i1 : Int32) (i2 : Int32) (i3 : Int32) (M : ev_M) : Option (Int32 × ev_M) := F_X3_familyAs_0 a0 i1 i2 i3 M
theorem sf_X3_familyAs {a0 : Nat} {i1 : Int32} {i2 : Int32} {i3 : Int32} {M : ev_M} {Q : Nat → Value → ev_M → Prop} {r : (Int32 × ev_M)} (h : f_X3_familyAs a0 i1 i2 i3 M = some r) (hq : Q 0 (.int r.1) r.2) : CX ev_prog 173 [.ref a0, .int i1, .int i2, .int i3] M Q := by
  rw [cx_open (ls := [.ref a0, .int i1, .int i2, .int i3, jk, jk, jk, jk, jk, jk, jk]) bk_X3_familyAs_0 rfl ml_X3_familyAs rfl]
  exact sF_X3_familyAs_0 h hq
def F_X3_isDone_82  (s0 : Int32) (M : ev_M) : Option (Int32 × ev_M) := (if s0 = 0 ∨ s0 = 1 then some (s0, M) else none)
theorem sF_X3_isDone_82  {s0 : Int32} {z0 : Value} {z1 : Value} {z2 : Value} {z3 : Value} {z4 : Value} {M : ev_M} {Q : Nat → Value → ev_M → Prop} {r : (Int32 × ev_M)} (h : F_X3_isDone_82  s0 M = some r) (hq : Q 0 (.int r.1) r.2) : XP ev_prog b_X3_isDone_82 [z0, z1, z2, z3, z4] [.int s0] M Q := by
  unfold F_X3_isDone_82 at h
  refine x_kill.mpr ?_
  show XP ev_prog _ [jk, jk, jk, jk, jk] [.int s0] M Q
  obtain ⟨hc, h⟩ := gd h
  cases h
  exact (x_ireturnZ hc).mpr hq
def F_X3_isDone_81   (M : ev_M) : Option (Int32 × ev_M) := F_X3_isDone_82  (iI (0)) M
theorem sF_X3_isDone_81   {z0 : Value} {z1 : Value} {z2 : Value} {z3 : Value} {z4 : Value} {M : ev_M} {Q : Nat → Value → ev_M → Prop} {r : (Int32 × ev_M)} (h : F_X3_isDone_81   M = some r) (hq : Q 0 (.int r.1) r.2) : XP ev_prog b_X3_isDone_81 [z0, z1, z2, z3, z4] [] M Q := by
  unfold F_X3_isDone_81 at h
  refine x_kill.mpr ?_
  show XP ev_prog _ [jk, jk, jk, jk, jk] [] M Q
  refine x_iconst.mpr ?_
  refine x_fall.mpr ?_
  rw [bk_X3_isDone_82]
  exact sF_X3_isDone_82 h hq
def F_X3_isDone_53 (a0 : Nat) (i1 : Int32) (i2 : Int32) (s0 : Int32) (M : ev_M) : Option (Int32 × ev_M) := (if s0 = 0 then F_X3_isDone_81   M else (if ([2] : List Nat).contains (mK M a0) = true then (if ev_isI (mK M (mA M a0 10)) = true ∧ ev_in i1 (mN M (mA M a0 10)) = true then (if ¬ (mI M (mA M a0 10) (ev_ix i1)) = 0 then (if ([2] : List Nat).contains (mK M a0) = true then (if ev_isI (mK M (mA M a0 11)) = true ∧ ev_in i1 (mN M (mA M a0 11)) = true then (if ¬ (i2 - i2 / (mI M (mA M a0 10) (ev_ix i1)) * (mI M (mA M a0 10) (ev_ix i1))) = (mI M (mA M a0 11) (ev_ix i1)) then F_X3_isDone_81   M else F_X3_isDone_82  (iI (1)) M) else none) else none) else none) else none) else none))
theorem sF_X3_isDone_53 {a0 : Nat} {i1 : Int32} {i2 : Int32} {s0 : Int32} {z3 : Value} {z4 : Value} {M : ev_M} {Q : Nat → Value → ev_M → Prop} {r : (Int32 × ev_M)} (h : F_X3_isDone_53 a0 i1 i2 s0 M = some r) (hq : Q 0 (.int r.1) r.2) : XP ev_prog b_X3_isDone_53 [.ref a0, .int i1, .int i2, z3, z4] [.int s0] M Q := by
  unfold F_X3_isDone_53 at h
  refine x_kill.mpr ?_
  show XP ev_prog _ [.ref a0, .int i1, .int i2, jk, jk] [.int s0] M Q
  refine x_istore4.mpr ?_
  refine x_iload4.mpr ?_
  rcases ife h with ⟨hc, h⟩ | ⟨hc, h⟩
  · rw [x_if_eq, if_pos hc, bk_X3_isDone_81]
    exact sF_X3_isDone_81 h hq
  · rw [x_if_eq, if_neg hc]
    refine x_iloadn2.mpr ?_
    refine x_aloadn0.mpr ?_
    obtain ⟨hc, h⟩ := gd h
    refine (x_getf4 hc).mpr ?_
    refine x_iloadn1.mpr ?_
    obtain ⟨hc, h⟩ := gd h
    refine (x_iaload hc.1 hc.2).mpr ?_
    obtain ⟨hc, h⟩ := gd h
    refine (x_irem hc).mpr ?_
    refine x_aloadn0.mpr ?_
    obtain ⟨hc, h⟩ := gd h
    refine (x_getf4 hc).mpr ?_
    refine x_iloadn1.mpr ?_
    obtain ⟨hc, h⟩ := gd h
    refine (x_iaload hc.1 hc.2).mpr ?_
    rcases ife h with ⟨hc, h⟩ | ⟨hc, h⟩
    · rw [x_icmp_ne, if_pos hc, bk_X3_isDone_81]
      exact sF_X3_isDone_81 h hq
    · rw [x_icmp_ne, if_neg hc]
      refine x_iconst.mpr ?_
      refine x_goto.mpr ?_
      rw [bk_X3_isDone_82]
      exact sF_X3_isDone_82 h hq
def F_X3_isDone_48 (a0 : Nat) (i1 : Int32) (i2 : Int32)  (M : ev_M) : Option (Int32 × ev_M) := F_X3_isDone_53 a0 i1 i2 (iI (1)) M
theorem sF_X3_isDone_48 {a0 : Nat} {i1 : Int32} {i2 : Int32}  {z3 : Value} {z4 : Value} {M : ev_M} {Q : Nat → Value → ev_M → Prop} {r : (Int32 × ev_M)} (h : F_X3_isDone_48 a0 i1 i2  M = some r) (hq : Q 0 (.int r.1) r.2) : XP ev_prog b_X3_isDone_48 [.ref a0, .int i1, .int i2, z3, z4] [] M Q := by
  unfold F_X3_isDone_48 at h
  refine x_kill.mpr ?_
  show XP ev_prog _ [.ref a0, .int i1, .int i2, jk, jk] [] M Q
  refine x_iconst.mpr ?_
  refine x_goto.mpr ?_
  rw [bk_X3_isDone_53]
  exact sF_X3_isDone_53 h hq
def F_X3_isDone_52 (a0 : Nat) (i1 : Int32) (i2 : Int32)  (M : ev_M) : Option (Int32 × ev_M) := F_X3_isDone_53 a0 i1 i2 (iI (0)) M
theorem sF_X3_isDone_52 {a0 : Nat} {i1 : Int32} {i2 : Int32}  {z3 : Value} {z4 : Value} {M : ev_M} {Q : Nat → Value → ev_M → Prop} {r : (Int32 × ev_M)} (h : F_X3_isDone_52 a0 i1 i2  M = some r) (hq : Q 0 (.int r.1) r.2) : XP ev_prog b_X3_isDone_52 [.ref a0, .int i1, .int i2, z3, z4] [] M Q := by
  unfold F_X3_isDone_52 at h
  refine x_kill.mpr ?_
  show XP ev_prog _ [.ref a0, .int i1, .int i2, jk, jk] [] M Q
  refine x_iconst.mpr ?_
  refine x_fall.mpr ?_
  rw [bk_X3_isDone_53]
  exact sF_X3_isDone_53 h hq
def F_X3_isDone_0 (a0 : Nat) (i1 : Int32) (i2 : Int32)  (M : ev_M) : Option (Int32 × ev_M) := (if ([2] : List Nat).contains (mK M a0) = true then (if ev_isI (mK M (mA M a0 12)) = true ∧ ev_in i1 (mN M (mA M a0 12)) = true then (if (mI M (mA M a0 12) (ev_ix i1)) = (iI (-1)) then F_X3_isDone_48 a0 i1 i2  M else (if ([2] : List Nat).contains (mK M a0) = true then (if ev_isI (mK M (mA M a0 0)) = true ∧ ev_in (mI M (mA M a0 12) (ev_ix i1)) (mN M (mA M a0 0)) = true then (if ¬ (mI M (mA M a0 0) (ev_ix (mI M (mA M a0 12) (ev_ix i1)))) = (iI (4)) then F_X3_isDone_52 a0 i1 i2  M else (if ([2] : List Nat).contains (mK M a0) = true then (if ev_isI (mK M (mA M a0 1)) = true ∧ ev_in (mI M (mA M a0 12) (ev_ix i1)) (mN M (mA M a0 1)) = true then (if (mI M (mA M a0 1) (ev_ix (mI M (mA M a0 12) (ev_ix i1)))) ≤ i2 then F_X3_isDone_52 a0 i1 i2  M else (if ([2] : List Nat).contains (mK M a0) = true then (if mK M (mA M a0 2) = 43 ∧ ev_in (((iI (24)) * (mI M (mA M a0 12) (ev_ix i1))) + i2) (mN M (mA M a0 2)) = true then (if (Op.cmpValue (FP.dcmp (mD M (mA M a0 2) (ev_ix (((iI (24)) * (mI M (mA M a0 12) (ev_ix i1))) + i2))) FP.dconst0) .l) = 0 then F_X3_isDone_52 a0 i1 i2  M else F_X3_isDone_48 a0 i1 i2  M) else none) else none)) else none) else none)) else none) else none)) else none) else none)
theorem sF_X3_isDone_0 {a0 : Nat} {i1 : Int32} {i2 : Int32}  {z3 : Value} {z4 : Value} {M : ev_M} {Q : Nat → Value → ev_M → Prop} {r : (Int32 × ev_M)} (h : F_X3_isDone_0 a0 i1 i2  M = some r) (hq : Q 0 (.int r.1) r.2) : XP ev_prog b_X3_isDone_0 [.ref a0, .int i1, .int i2, z3, z4] [] M Q := by
  unfold F_X3_isDone_0 at h
  refine x_aloadn0.mpr ?_
  obtain ⟨hc, h⟩ := gd h
  refine (x_getf4 hc).mpr ?_
  refine x_iloadn1.mpr ?_
  obtain ⟨hc, h⟩ := gd h
  refine (x_iaload hc.1 hc.2).mpr ?_
  refine x_istoren3.mpr ?_
  refine x_iloadn3.mpr ?_
  refine x_iconst.mpr ?_
  rcases ife h with ⟨hc, h⟩ | ⟨hc, h⟩
  · rw [x_icmp_eq, if_pos hc, bk_X3_isDone_48]
    exact sF_X3_isDone_48 h hq
  · rw [x_icmp_eq, if_neg hc]
    refine x_aloadn0.mpr ?_
    obtain ⟨hc, h⟩ := gd h
    refine (x_getf4 hc).mpr ?_
    refine x_iloadn3.mpr ?_
    obtain ⟨hc, h⟩ := gd h
    refine (x_iaload hc.1 hc.2).mpr ?_
    refine x_iconst.mpr ?_
    rcases ife h with ⟨hc, h⟩ | ⟨hc, h⟩
    · rw [x_icmp_ne, if_pos hc, bk_X3_isDone_52]
      exact sF_X3_isDone_52 h hq
    · rw [x_icmp_ne, if_neg hc]
      refine x_iloadn2.mpr ?_
      refine x_aloadn0.mpr ?_
      obtain ⟨hc, h⟩ := gd h
      refine (x_getf4 hc).mpr ?_
      refine x_iloadn3.mpr ?_
      obtain ⟨hc, h⟩ := gd h
      refine (x_iaload hc.1 hc.2).mpr ?_
      rcases ife h with ⟨hc, h⟩ | ⟨hc, h⟩
      · rw [x_icmp_ge, if_pos hc, bk_X3_isDone_52]
        exact sF_X3_isDone_52 h hq
      · rw [x_icmp_ge, if_neg hc]
        refine x_aloadn0.mpr ?_
        obtain ⟨hc, h⟩ := gd h
        refine (x_getf4 hc).mpr ?_
        refine (x_bipush (by decide)).mpr ?_
        refine x_iloadn3.mpr ?_
        refine (x_imul).mpr ?_
        refine x_iloadn2.mpr ?_
        refine (x_iadd).mpr ?_
        obtain ⟨hc, h⟩ := gd h
        refine (x_daload hc.1 hc.2).mpr ?_
        refine x_dconst0.mpr ?_
        refine x_dcmp.mpr ?_
        rcases ife h with ⟨hc, h⟩ | ⟨hc, h⟩
        · rw [x_if_eq, if_pos hc, bk_X3_isDone_52]
          exact sF_X3_isDone_52 h hq
        · rw [x_if_eq, if_neg hc]
          refine x_fall.mpr ?_
          rw [bk_X3_isDone_48]
          exact sF_X3_isDone_48 h hq
def f_X3_isDone (a0 : Nat) (i1 : Int32) (i2 : Int32) (M : ev_M) : Option (Int32 × ev_M) := F_X3_isDone_0 a0 i1 i2 M
theorem sf_X3_isDone {a0 : Nat} {i1 : Int32} {i2 : Int32} {M : ev_M} {Q : Nat → Value → ev_M → Prop} {r : (Int32 × ev_M)} (h : f_X3_isDone a0 i1 i2 M = some r) (hq : Q 0 (.int r.1) r.2) : CX ev_prog 174 [.ref a0, .int i1, .int i2] M Q := by
  rw [cx_open (ls := [.ref a0, .int i1, .int i2, jk, jk]) bk_X3_isDone_0 rfl ml_X3_isDone rfl]
  exact sF_X3_isDone_0 h hq
def F_X3_doneMany_35 (i2 : Int32)  (M : ev_M) : Option (Int32 × ev_M) := some (i2, M)
theorem sF_X3_doneMany_35 {i2 : Int32}  {z0 : Value} {z1 : Value} {z3 : Value} {M : ev_M} {Q : Nat → Value → ev_M → Prop} {r : (Int32 × ev_M)} (h : F_X3_doneMany_35 i2  M = some r) (hq : Q 0 (.int r.1) r.2) : XP ev_prog b_X3_doneMany_35 [z0, z1, .int i2, z3] [] M Q := by
  unfold F_X3_doneMany_35 at h
  refine x_iloadn2.mpr ?_
  cases h
  exact x_ireturn.mpr hq
def F_X3_doneMany_27 (k4 : Nat → Int32 → Int32 → Int32 → ev_M → Option (Int32 × ev_M)) (a0 : Nat) (i1 : Int32) (i3 : Int32) (s0 : Int32) (s1 : Int32) (M : ev_M) : Option (Int32 × ev_M) := k4 a0 i1 (s1 + s0) (i3 + iI (1)) M
theorem sF_X3_doneMany_27 {k4 : Nat → Int32 → Int32 → Int32 → ev_M → Option (Int32 × ev_M)} (hk4 : ∀ (a0 : Nat) (i1 : Int32) (i2 : Int32) (i3 : Int32) (M : ev_M) (r : (Int32 × ev_M)), k4 a0 i1 i2 i3 M = some r → ∀ (Q : Nat → Value → ev_M → Prop), Q 0 (.int r.1) r.2 → XP ev_prog b_X3_doneMany_4 [.ref a0, .int i1, .int i2, .int i3] [] M Q){a0 : Nat} {i1 : Int32} {i3 : Int32} {s0 : Int32} {s1 : Int32} {z2 : Value} {M : ev_M} {Q : Nat → Value → ev_M → Prop} {r : (Int32 × ev_M)} (h : F_X3_doneMany_27 k4 a0 i1 i3 s0 s1 M = some r) (hq : Q 0 (.int r.1) r.2) : XP ev_prog b_X3_doneMany_27 [.ref a0, .int i1, z2, .int i3] [.int s0, .int s1] M Q := by
  unfold F_X3_doneMany_27 at h
  refine x_kill.mpr ?_
  show XP ev_prog _ [.ref a0, .int i1, jk, .int i3] [.int s0, .int s1] M Q
  refine (x_iadd).mpr ?_
  refine x_istoren2.mpr ?_
  refine x_iinc3.mpr ?_
  refine x_goto.mpr ?_
  rw [bk_X3_doneMany_4]
  exact hk4 _ _ _ _ _ _ _ h _ hq
def F_X3_doneMany_26 (k4 : Nat → Int32 → Int32 → Int32 → ev_M → Option (Int32 × ev_M)) (a0 : Nat) (i1 : Int32) (i3 : Int32) (s0 : Int32) (M : ev_M) : Option (Int32 × ev_M) := F_X3_doneMany_27 k4 a0 i1 i3 (iI (0)) s0 M
theorem sF_X3_doneMany_26 {k4 : Nat → Int32 → Int32 → Int32 → ev_M → Option (Int32 × ev_M)} (hk4 : ∀ (a0 : Nat) (i1 : Int32) (i2 : Int32) (i3 : Int32) (M : ev_M) (r : (Int32 × ev_M)), k4 a0 i1 i2 i3 M = some r → ∀ (Q : Nat → Value → ev_M → Prop), Q 0 (.int r.1) r.2 → XP ev_prog b_X3_doneMany_4 [.ref a0, .int i1, .int i2, .int i3] [] M Q){a0 : Nat} {i1 : Int32} {i3 : Int32} {s0 : Int32} {z2 : Value} {M : ev_M} {Q : Nat → Value → ev_M → Prop} {r : (Int32 × ev_M)} (h : F_X3_doneMany_26 k4 a0 i1 i3 s0 M = some r) (hq : Q 0 (.int r.1) r.2) : XP ev_prog b_X3_doneMany_26 [.ref a0, .int i1, z2, .int i3] [.int s0] M Q := by
  unfold F_X3_doneMany_26 at h
  refine x_iconst.mpr ?_
  refine x_fall.mpr ?_
  rw [bk_X3_doneMany_27]
  exact sF_X3_doneMany_27 hk4 h hq
def F_X3_doneMany_4 (k4 : Nat → Int32 → Int32 → Int32 → ev_M → Option (Int32 × ev_M)) (a0 : Nat) (i1 : Int32) (i2 : Int32) (i3 : Int32)  (M : ev_M) : Option (Int32 × ev_M) := (if ([2] : List Nat).contains (mK M a0) = true then (if (mI M a0 6) ≤ i3 then F_X3_doneMany_35 i2  M else (if ¬ a0 = 0 ∧ mK M a0 = 2 then (f_X3_isDone a0 i1 i3 M).bind fun r16_1 => (if r16_1.1 = 0 then F_X3_doneMany_26 k4 a0 i1 i3 i2 r16_1.2 else F_X3_doneMany_27 k4 a0 i1 i3 (iI (1)) i2 r16_1.2) else none)) else none)
theorem sF_X3_doneMany_4 {k4 : Nat → Int32 → Int32 → Int32 → ev_M → Option (Int32 × ev_M)} (hk4 : ∀ (a0 : Nat) (i1 : Int32) (i2 : Int32) (i3 : Int32) (M : ev_M) (r : (Int32 × ev_M)), k4 a0 i1 i2 i3 M = some r → ∀ (Q : Nat → Value → ev_M → Prop), Q 0 (.int r.1) r.2 → XP ev_prog b_X3_doneMany_4 [.ref a0, .int i1, .int i2, .int i3] [] M Q){a0 : Nat} {i1 : Int32} {i2 : Int32} {i3 : Int32}   {M : ev_M} {Q : Nat → Value → ev_M → Prop} {r : (Int32 × ev_M)} (h : F_X3_doneMany_4 k4 a0 i1 i2 i3  M = some r) (hq : Q 0 (.int r.1) r.2) : XP ev_prog b_X3_doneMany_4 [.ref a0, .int i1, .int i2, .int i3] [] M Q := by
  unfold F_X3_doneMany_4 at h
  refine x_iloadn3.mpr ?_
  refine x_aloadn0.mpr ?_
  obtain ⟨hc, h⟩ := gd h
  refine (x_getf0 hc).mpr ?_
  rcases ife h with ⟨hc, h⟩ | ⟨hc, h⟩
  · rw [x_icmp_ge, if_pos hc, bk_X3_doneMany_35]
    exact sF_X3_doneMany_35 h hq
  · rw [x_icmp_ge, if_neg hc]
    refine x_iloadn2.mpr ?_
    refine x_aloadn0.mpr ?_
    refine x_iloadn1.mpr ?_
    refine x_iloadn3.mpr ?_
    obtain ⟨hc, h⟩ := gd h
    obtain ⟨r16_1, hz, h⟩ := Option.bind_eq_some_iff.mp h
    refine (y_virt3 ml_X3_isDone (by show 3 ≤ 5; decide) hc.1 hc.2 rfl (by decide) (by show ¬ 8 < 1; decide)).mpr ?_
    refine sf_X3_isDone hz ?_
    refine xk0.mpr ?_
    show XP ev_prog _ _ (.int r16_1.1 :: _) r16_1.2 Q
    rcases ife h with ⟨hc, h⟩ | ⟨hc, h⟩
    · rw [x_if_eq, if_pos hc, bk_X3_doneMany_26]
      exact sF_X3_doneMany_26 hk4 h hq
    · rw [x_if_eq, if_neg hc]
      refine x_iconst.mpr ?_
      refine x_goto.mpr ?_
      rw [bk_X3_doneMany_27]
      exact sF_X3_doneMany_27 hk4 h hq
def W_X3_doneMany_4 : Nat → Nat → Int32 → Int32 → Int32 → ev_M → Option (Int32 × ev_M)
  | 0 => fun _ => fun _ => fun _ => fun _ => fun _ => none
  | n + 1 => fun a0 i1 i2 i3 M => F_X3_doneMany_4 (W_X3_doneMany_4 n) a0 i1 i2 i3 M
theorem sW_X3_doneMany_4  : ∀ (n : Nat) {a0 : Nat} {i1 : Int32} {i2 : Int32} {i3 : Int32} {M : ev_M} {r : (Int32 × ev_M)} (h : W_X3_doneMany_4 n a0 i1 i2 i3 M = some r)  {Q : Nat → Value → ev_M → Prop} (hq : Q 0 (.int r.1) r.2), XP ev_prog b_X3_doneMany_4 [.ref a0, .int i1, .int i2, .int i3] [] M Q := by
  intro n
  induction n with
  | zero => intro a0 i1 i2 i3 M r h; cases h
  | succ n ih => intro a0 i1 i2 i3 M r h  Q hq; exact sF_X3_doneMany_4 (fun a0 i1 i2 i3 M r h  Q hq => ih h hq) h hq
def F_X3_doneMany_0 (a0 : Nat) (i1 : Int32)  (M : ev_M) : Option (Int32 × ev_M) := W_X3_doneMany_4 5000 a0 i1 (iI (0)) (iI (0)) M
theorem sF_X3_doneMany_0 {a0 : Nat} {i1 : Int32}  {z2 : Value} {z3 : Value} {M : ev_M} {Q : Nat → Value → ev_M → Prop} {r : (Int32 × ev_M)} (h : F_X3_doneMany_0 a0 i1  M = some r) (hq : Q 0 (.int r.1) r.2) : XP ev_prog b_X3_doneMany_0 [.ref a0, .int i1, z2, z3] [] M Q := by
  unfold F_X3_doneMany_0 at h
  refine x_iconst.mpr ?_
  refine x_istoren2.mpr ?_
  refine x_iconst.mpr ?_
  refine x_istoren3.mpr ?_
  refine x_fall.mpr ?_
  rw [bk_X3_doneMany_4]
  exact sW_X3_doneMany_4 5000 h hq
def f_X3_doneMany (a0 : Nat) (i1 : Int32) (M : ev_M) : Option (Int32 × ev_M) := F_X3_doneMany_0 a0 i1 M
theorem sf_X3_doneMany {a0 : Nat} {i1 : Int32} {M : ev_M} {Q : Nat → Value → ev_M → Prop} {r : (Int32 × ev_M)} (h : f_X3_doneMany a0 i1 M = some r) (hq : Q 0 (.int r.1) r.2) : CX ev_prog 175 [.ref a0, .int i1] M Q := by
  rw [cx_open (ls := [.ref a0, .int i1, jk, jk]) bk_X3_doneMany_0 rfl ml_X3_doneMany rfl]
  exact sF_X3_doneMany_0 h hq
def F_X3_infoOf_83 (a0 : Nat) (i1 : Int32)  (M : ev_M) : Option (Int32 × ev_M) := (if ¬ a0 = 0 ∧ mK M a0 = 2 then (f_X3_doneMany a0 i1 M).bind fun r85_1 => some (r85_1.1, r85_1.2) else none)
theorem sF_X3_infoOf_83 {a0 : Nat} {i1 : Int32}  {z2 : Value} {M : ev_M} {Q : Nat → Value → ev_M → Prop} {r : (Int32 × ev_M)} (h : F_X3_infoOf_83 a0 i1  M = some r) (hq : Q 0 (.int r.1) r.2) : XP ev_prog b_X3_infoOf_83 [.ref a0, .int i1, z2] [] M Q := by
  unfold F_X3_infoOf_83 at h
  refine x_aloadn0.mpr ?_
  refine x_iloadn1.mpr ?_
  obtain ⟨hc, h⟩ := gd h
  obtain ⟨r85_1, hz, h⟩ := Option.bind_eq_some_iff.mp h
  refine (y_virt2 ml_X3_doneMany (by show 2 ≤ 4; decide) hc.1 hc.2 rfl (by decide) (by show ¬ 8 < 0; decide)).mpr ?_
  refine sf_X3_doneMany hz ?_
  refine xk0.mpr ?_
  show XP ev_prog _ _ (.int r85_1.1 :: _) r85_1.2 Q
  cases h
  exact x_ireturn.mpr hq
def F_X3_infoOf_40 (a0 : Nat) (i1 : Int32)  (M : ev_M) : Option (Int32 × ev_M) := (if ([2] : List Nat).contains (mK M a0) = true then (if ev_isI (mK M (mA M a0 8)) = true ∧ ev_in i1 (mN M (mA M a0 8)) = true then some ((mI M (mA M a0 8) (ev_ix i1)), M) else none) else none)
theorem sF_X3_infoOf_40 {a0 : Nat} {i1 : Int32}  {z2 : Value} {M : ev_M} {Q : Nat → Value → ev_M → Prop} {r : (Int32 × ev_M)} (h : F_X3_infoOf_40 a0 i1  M = some r) (hq : Q 0 (.int r.1) r.2) : XP ev_prog b_X3_infoOf_40 [.ref a0, .int i1, z2] [] M Q := by
  unfold F_X3_infoOf_40 at h
  refine x_aloadn0.mpr ?_
  obtain ⟨hc, h⟩ := gd h
  refine (x_getf4 hc).mpr ?_
  refine x_iloadn1.mpr ?_
  obtain ⟨hc, h⟩ := gd h
  refine (x_iaload hc.1 hc.2).mpr ?_
  cases h
  exact x_ireturn.mpr hq
def F_X3_infoOf_47 (a0 : Nat) (i1 : Int32)  (M : ev_M) : Option (Int32 × ev_M) := (if ([2] : List Nat).contains (mK M a0) = true then (if ev_isI (mK M (mA M a0 9)) = true ∧ ev_in i1 (mN M (mA M a0 9)) = true then some ((mI M (mA M a0 9) (ev_ix i1)), M) else none) else none)
theorem sF_X3_infoOf_47 {a0 : Nat} {i1 : Int32}  {z2 : Value} {M : ev_M} {Q : Nat → Value → ev_M → Prop} {r : (Int32 × ev_M)} (h : F_X3_infoOf_47 a0 i1  M = some r) (hq : Q 0 (.int r.1) r.2) : XP ev_prog b_X3_infoOf_47 [.ref a0, .int i1, z2] [] M Q := by
  unfold F_X3_infoOf_47 at h
  refine x_aloadn0.mpr ?_
  obtain ⟨hc, h⟩ := gd h
  refine (x_getf4 hc).mpr ?_
  refine x_iloadn1.mpr ?_
  obtain ⟨hc, h⟩ := gd h
  refine (x_iaload hc.1 hc.2).mpr ?_
  cases h
  exact x_ireturn.mpr hq
def F_X3_infoOf_54 (a0 : Nat) (i1 : Int32)  (M : ev_M) : Option (Int32 × ev_M) := (if ([2] : List Nat).contains (mK M a0) = true then (if ev_isI (mK M (mA M a0 10)) = true ∧ ev_in i1 (mN M (mA M a0 10)) = true then some ((mI M (mA M a0 10) (ev_ix i1)), M) else none) else none)
theorem sF_X3_infoOf_54 {a0 : Nat} {i1 : Int32}  {z2 : Value} {M : ev_M} {Q : Nat → Value → ev_M → Prop} {r : (Int32 × ev_M)} (h : F_X3_infoOf_54 a0 i1  M = some r) (hq : Q 0 (.int r.1) r.2) : XP ev_prog b_X3_infoOf_54 [.ref a0, .int i1, z2] [] M Q := by
  unfold F_X3_infoOf_54 at h
  refine x_aloadn0.mpr ?_
  obtain ⟨hc, h⟩ := gd h
  refine (x_getf4 hc).mpr ?_
  refine x_iloadn1.mpr ?_
  obtain ⟨hc, h⟩ := gd h
  refine (x_iaload hc.1 hc.2).mpr ?_
  cases h
  exact x_ireturn.mpr hq
def F_X3_infoOf_61 (a0 : Nat) (i1 : Int32)  (M : ev_M) : Option (Int32 × ev_M) := (if ([2] : List Nat).contains (mK M a0) = true then (if ev_isI (mK M (mA M a0 11)) = true ∧ ev_in i1 (mN M (mA M a0 11)) = true then some ((mI M (mA M a0 11) (ev_ix i1)), M) else none) else none)
theorem sF_X3_infoOf_61 {a0 : Nat} {i1 : Int32}  {z2 : Value} {M : ev_M} {Q : Nat → Value → ev_M → Prop} {r : (Int32 × ev_M)} (h : F_X3_infoOf_61 a0 i1  M = some r) (hq : Q 0 (.int r.1) r.2) : XP ev_prog b_X3_infoOf_61 [.ref a0, .int i1, z2] [] M Q := by
  unfold F_X3_infoOf_61 at h
  refine x_aloadn0.mpr ?_
  obtain ⟨hc, h⟩ := gd h
  refine (x_getf4 hc).mpr ?_
  refine x_iloadn1.mpr ?_
  obtain ⟨hc, h⟩ := gd h
  refine (x_iaload hc.1 hc.2).mpr ?_
  cases h
  exact x_ireturn.mpr hq
def F_X3_infoOf_68 (a0 : Nat) (i1 : Int32)  (M : ev_M) : Option (Int32 × ev_M) := (if ([2] : List Nat).contains (mK M a0) = true then (if ev_isI (mK M (mA M a0 12)) = true ∧ ev_in i1 (mN M (mA M a0 12)) = true then some ((mI M (mA M a0 12) (ev_ix i1)), M) else none) else none)
theorem sF_X3_infoOf_68 {a0 : Nat} {i1 : Int32}  {z2 : Value} {M : ev_M} {Q : Nat → Value → ev_M → Prop} {r : (Int32 × ev_M)} (h : F_X3_infoOf_68 a0 i1  M = some r) (hq : Q 0 (.int r.1) r.2) : XP ev_prog b_X3_infoOf_68 [.ref a0, .int i1, z2] [] M Q := by
  unfold F_X3_infoOf_68 at h
  refine x_aloadn0.mpr ?_
  obtain ⟨hc, h⟩ := gd h
  refine (x_getf4 hc).mpr ?_
  refine x_iloadn1.mpr ?_
  obtain ⟨hc, h⟩ := gd h
  refine (x_iaload hc.1 hc.2).mpr ?_
  cases h
  exact x_ireturn.mpr hq
def F_X3_infoOf_75 (a0 : Nat) (i1 : Int32)  (M : ev_M) : Option (Int32 × ev_M) := (if ¬ a0 = 0 ∧ mK M a0 = 2 then (f_X3_familyAs a0 i1 (iI (-1)) (iI (0)) M).bind fun r79_1 => some (r79_1.1, r79_1.2) else none)
theorem sF_X3_infoOf_75 {a0 : Nat} {i1 : Int32}  {z2 : Value} {M : ev_M} {Q : Nat → Value → ev_M → Prop} {r : (Int32 × ev_M)} (h : F_X3_infoOf_75 a0 i1  M = some r) (hq : Q 0 (.int r.1) r.2) : XP ev_prog b_X3_infoOf_75 [.ref a0, .int i1, z2] [] M Q := by
  unfold F_X3_infoOf_75 at h
  refine x_aloadn0.mpr ?_
  refine x_iloadn1.mpr ?_
  refine x_iconst.mpr ?_
  refine x_iconst.mpr ?_
  obtain ⟨hc, h⟩ := gd h
  obtain ⟨r79_1, hz, h⟩ := Option.bind_eq_some_iff.mp h
  refine (y_virt4 ml_X3_familyAs (by show 4 ≤ 11; decide) hc.1 hc.2 rfl (by decide) (by show ¬ 8 < 0; decide)).mpr ?_
  refine sf_X3_familyAs hz ?_
  refine xk0.mpr ?_
  show XP ev_prog _ _ (.int r79_1.1 :: _) r79_1.2 Q
  cases h
  exact x_ireturn.mpr hq
def F_X3_infoOf_0 (a0 : Nat) (i1 : Int32) (i2 : Int32)  (M : ev_M) : Option (Int32 × ev_M) := (if Int32.toInt i2 < 0 ∨ 5 < Int32.toInt i2 then F_X3_infoOf_83 a0 i1  M else match (Int32.toInt i2 - 0).toNat with | 0 => F_X3_infoOf_40 a0 i1  M | 1 => F_X3_infoOf_47 a0 i1  M | 2 => F_X3_infoOf_54 a0 i1  M | 3 => F_X3_infoOf_61 a0 i1  M | 4 => F_X3_infoOf_68 a0 i1  M | 5 => F_X3_infoOf_75 a0 i1  M | _ + 6 => F_X3_infoOf_83 a0 i1  M)
theorem sF_X3_infoOf_0 {a0 : Nat} {i1 : Int32} {i2 : Int32}   {M : ev_M} {Q : Nat → Value → ev_M → Prop} {r : (Int32 × ev_M)} (h : F_X3_infoOf_0 a0 i1 i2  M = some r) (hq : Q 0 (.int r.1) r.2) : XP ev_prog b_X3_infoOf_0 [.ref a0, .int i1, .int i2] [] M Q := by
  unfold F_X3_infoOf_0 at h
  refine x_iloadn2.mpr ?_
  refine x_tsw.mpr ?_
  rcases ife h with ⟨hc, h⟩ | ⟨hc, h⟩
  · rw [if_pos hc, bk_X3_infoOf_83]
    exact sF_X3_infoOf_83 h hq
  · rw [if_neg hc]
    generalize (Int32.toInt i2 - 0).toNat = n at h ⊢
    match n, h with
    | 0, h =>
      show XP ev_prog (ev_prog.1 720936) _ _ M Q
      rw [bk_X3_infoOf_40]
      exact sF_X3_infoOf_40 h hq
    | 1, h =>
      show XP ev_prog (ev_prog.1 720943) _ _ M Q
      rw [bk_X3_infoOf_47]
      exact sF_X3_infoOf_47 h hq
    | 2, h =>
      show XP ev_prog (ev_prog.1 720950) _ _ M Q
      rw [bk_X3_infoOf_54]
      exact sF_X3_infoOf_54 h hq
    | 3, h =>
      show XP ev_prog (ev_prog.1 720957) _ _ M Q
      rw [bk_X3_infoOf_61]
      exact sF_X3_infoOf_61 h hq
    | 4, h =>
      show XP ev_prog (ev_prog.1 720964) _ _ M Q
      rw [bk_X3_infoOf_68]
      exact sF_X3_infoOf_68 h hq
    | 5, h =>
      show XP ev_prog (ev_prog.1 720971) _ _ M Q
      rw [bk_X3_infoOf_75]
      exact sF_X3_infoOf_75 h hq
    | n + 6, h =>
      show XP ev_prog (ev_prog.1 720979) _ _ _ Q
      rw [bk_X3_infoOf_83]
      exact sF_X3_infoOf_83 h hq
def f_X3_infoOf (a0 : Nat) (i1 : Int32) (i2 : Int32) (M : ev_M) : Option (Int32 × ev_M) := F_X3_infoOf_0 a0 i1 i2 M
theorem sf_X3_infoOf {a0 : Nat} {i1 : Int32} {i2 : Int32} {M : ev_M} {Q : Nat → Value → ev_M → Prop} {r : (Int32 × ev_M)} (h : f_X3_infoOf a0 i1 i2 M = some r) (hq : Q 0 (.int r.1) r.2) : CX ev_prog 176 [.ref a0, .int i1, .int i2] M Q := by
  rw [cx_open (ls := [.ref a0, .int i1, .int i2]) bk_X3_infoOf_0 rfl ml_X3_infoOf rfl]
  exact sF_X3_infoOf_0 h hq
def F_X3_info_29  (s0 : Int32) (M : ev_M) : Option (Int32 × ev_M) := some (s0, M)
theorem sF_X3_info_29  {s0 : Int32} {z0 : Value} {z1 : Value} {z2 : Value} {M : ev_M} {Q : Nat → Value → ev_M → Prop} {r : (Int32 × ev_M)} (h : F_X3_info_29  s0 M = some r) (hq : Q 0 (.int r.1) r.2) : XP ev_prog b_X3_info_29 [z0, z1, z2] [.int s0] M Q := by
  unfold F_X3_info_29 at h
  refine x_kill.mpr ?_
  show XP ev_prog _ [jk, jk, jk] [.int s0] M Q
  cases h
  exact x_ireturn.mpr hq
def F_X3_info_27   (M : ev_M) : Option (Int32 × ev_M) := F_X3_info_29  (iI (-2)) M
theorem sF_X3_info_27   {z0 : Value} {z1 : Value} {z2 : Value} {M : ev_M} {Q : Nat → Value → ev_M → Prop} {r : (Int32 × ev_M)} (h : F_X3_info_27   M = some r) (hq : Q 0 (.int r.1) r.2) : XP ev_prog b_X3_info_27 [z0, z1, z2] [] M Q := by
  unfold F_X3_info_27 at h
  refine x_kill.mpr ?_
  show XP ev_prog _ [jk, jk, jk] [] M Q
  refine (x_bipush (by decide)).mpr ?_
  refine x_fall.mpr ?_
  rw [bk_X3_info_29]
  exact sF_X3_info_29 h hq
def F_X3_info_0 (a0 : Nat) (i1 : Int32) (i2 : Int32)  (M : ev_M) : Option (Int32 × ev_M) := (if ¬ a0 = 0 ∧ mK M a0 = 2 then (f_X3_isStatement a0 i1 M).bind fun r2_1 => (if r2_1.1 = 0 then F_X3_info_27   r2_1.2 else (f_X3_in i2 (iI (0)) (iI (6)) r2_1.2).bind fun r12_1 => (if r12_1.1 = 0 then F_X3_info_27   r12_1.2 else (if ¬ a0 = 0 ∧ mK r12_1.2 a0 = 2 then (f_X3_infoOf a0 i1 i2 r12_1.2).bind fun r21_1 => F_X3_info_29  r21_1.1 r21_1.2 else none))) else none)
theorem sF_X3_info_0 {a0 : Nat} {i1 : Int32} {i2 : Int32}   {M : ev_M} {Q : Nat → Value → ev_M → Prop} {r : (Int32 × ev_M)} (h : F_X3_info_0 a0 i1 i2  M = some r) (hq : Q 0 (.int r.1) r.2) : XP ev_prog b_X3_info_0 [.ref a0, .int i1, .int i2] [] M Q := by
  unfold F_X3_info_0 at h
  refine x_aloadn0.mpr ?_
  refine x_iloadn1.mpr ?_
  obtain ⟨hc, h⟩ := gd h
  obtain ⟨r2_1, hz, h⟩ := Option.bind_eq_some_iff.mp h
  refine (y_virt2 ml_X3_isStatement (by show 2 ≤ 2; decide) hc.1 hc.2 rfl (by decide) (by show ¬ 8 < 0; decide)).mpr ?_
  refine sf_X3_isStatement hz ?_
  refine xk0.mpr ?_
  show XP ev_prog _ _ (.int r2_1.1 :: _) r2_1.2 Q
  rcases ife h with ⟨hc, h⟩ | ⟨hc, h⟩
  · rw [x_if_eq, if_pos hc, bk_X3_info_27]
    exact sF_X3_info_27 h hq
  · rw [x_if_eq, if_neg hc]
    refine x_iloadn2.mpr ?_
    refine x_iconst.mpr ?_
    refine (x_bipush (by decide)).mpr ?_
    obtain ⟨r12_1, hz, h⟩ := Option.bind_eq_some_iff.mp h
    refine (y_stat3 ml_X3_in (by show 3 ≤ 3; decide) (by decide) (by decide) (by show ¬ 8 < 0; decide)).mpr ?_
    refine sf_X3_in hz ?_
    refine xk0.mpr ?_
    show XP ev_prog _ _ (.int r12_1.1 :: _) r12_1.2 Q
    rcases ife h with ⟨hc, h⟩ | ⟨hc, h⟩
    · rw [x_if_eq, if_pos hc, bk_X3_info_27]
      exact sF_X3_info_27 h hq
    · rw [x_if_eq, if_neg hc]
      refine x_aloadn0.mpr ?_
      refine x_iloadn1.mpr ?_
      refine x_iloadn2.mpr ?_
      obtain ⟨hc, h⟩ := gd h
      obtain ⟨r21_1, hz, h⟩ := Option.bind_eq_some_iff.mp h
      refine (y_virt3 ml_X3_infoOf (by show 3 ≤ 3; decide) hc.1 hc.2 rfl (by decide) (by show ¬ 8 < 0; decide)).mpr ?_
      refine sf_X3_infoOf hz ?_
      refine xk0.mpr ?_
      show XP ev_prog _ _ (.int r21_1.1 :: _) r21_1.2 Q
      refine x_goto.mpr ?_
      rw [bk_X3_info_29]
      exact sF_X3_info_29 h hq
def f_X3_info (a0 : Nat) (i1 : Int32) (i2 : Int32) (M : ev_M) : Option (Int32 × ev_M) := F_X3_info_0 a0 i1 i2 M
theorem sf_X3_info {a0 : Nat} {i1 : Int32} {i2 : Int32} {M : ev_M} {Q : Nat → Value → ev_M → Prop} {r : (Int32 × ev_M)} (h : f_X3_info a0 i1 i2 M = some r) (hq : Q 0 (.int r.1) r.2) : CX ev_prog 177 [.ref a0, .int i1, .int i2] M Q := by
  rw [cx_open (ls := [.ref a0, .int i1, .int i2]) bk_X3_info_0 rfl ml_X3_info rfl]
  exact sF_X3_info_0 h hq
def F_X3_referenceOf_47  (s0 : Int32) (M : ev_M) : Option (Int32 × ev_M) := some (s0, M)
theorem sF_X3_referenceOf_47  {s0 : Int32} {z0 : Value} {z1 : Value} {z2 : Value} {M : ev_M} {Q : Nat → Value → ev_M → Prop} {r : (Int32 × ev_M)} (h : F_X3_referenceOf_47  s0 M = some r) (hq : Q 0 (.int r.1) r.2) : XP ev_prog b_X3_referenceOf_47 [z0, z1, z2] [.int s0] M Q := by
  unfold F_X3_referenceOf_47 at h
  refine x_kill.mpr ?_
  show XP ev_prog _ [jk, jk, jk] [.int s0] M Q
  cases h
  exact x_ireturn.mpr hq
def F_X3_referenceOf_41 (a0 : Nat) (i1 : Int32)  (M : ev_M) : Option (Int32 × ev_M) := (if ([2] : List Nat).contains (mK M a0) = true then (if ev_isI (mK M (mA M a0 16)) = true ∧ ev_in i1 (mN M (mA M a0 16)) = true then F_X3_referenceOf_47  (mI M (mA M a0 16) (ev_ix i1)) M else none) else none)
theorem sF_X3_referenceOf_41 {a0 : Nat} {i1 : Int32}  {z2 : Value} {M : ev_M} {Q : Nat → Value → ev_M → Prop} {r : (Int32 × ev_M)} (h : F_X3_referenceOf_41 a0 i1  M = some r) (hq : Q 0 (.int r.1) r.2) : XP ev_prog b_X3_referenceOf_41 [.ref a0, .int i1, z2] [] M Q := by
  unfold F_X3_referenceOf_41 at h
  refine x_aloadn0.mpr ?_
  obtain ⟨hc, h⟩ := gd h
  refine (x_getf4 hc).mpr ?_
  refine x_iloadn1.mpr ?_
  obtain ⟨hc, h⟩ := gd h
  refine (x_iaload hc.1 hc.2).mpr ?_
  refine x_fall.mpr ?_
  rw [bk_X3_referenceOf_47]
  exact sF_X3_referenceOf_47 h hq
def F_X3_referenceOf_27 (a0 : Nat) (i1 : Int32) (i2 : Int32)  (M : ev_M) : Option (Int32 × ev_M) := (if ¬ i2 = (iI (2)) then F_X3_referenceOf_41 a0 i1  M else (if ([2] : List Nat).contains (mK M a0) = true then (if ev_isI (mK M (mA M a0 15)) = true ∧ ev_in i1 (mN M (mA M a0 15)) = true then F_X3_referenceOf_47  (mI M (mA M a0 15) (ev_ix i1)) M else none) else none))
theorem sF_X3_referenceOf_27 {a0 : Nat} {i1 : Int32} {i2 : Int32}   {M : ev_M} {Q : Nat → Value → ev_M → Prop} {r : (Int32 × ev_M)} (h : F_X3_referenceOf_27 a0 i1 i2  M = some r) (hq : Q 0 (.int r.1) r.2) : XP ev_prog b_X3_referenceOf_27 [.ref a0, .int i1, .int i2] [] M Q := by
  unfold F_X3_referenceOf_27 at h
  refine x_iloadn2.mpr ?_
  refine x_iconst.mpr ?_
  rcases ife h with ⟨hc, h⟩ | ⟨hc, h⟩
  · rw [x_icmp_ne, if_pos hc, bk_X3_referenceOf_41]
    exact sF_X3_referenceOf_41 h hq
  · rw [x_icmp_ne, if_neg hc]
    refine x_aloadn0.mpr ?_
    obtain ⟨hc, h⟩ := gd h
    refine (x_getf4 hc).mpr ?_
    refine x_iloadn1.mpr ?_
    obtain ⟨hc, h⟩ := gd h
    refine (x_iaload hc.1 hc.2).mpr ?_
    refine x_goto.mpr ?_
    rw [bk_X3_referenceOf_47]
    exact sF_X3_referenceOf_47 h hq
def F_X3_referenceOf_13 (a0 : Nat) (i1 : Int32) (i2 : Int32)  (M : ev_M) : Option (Int32 × ev_M) := (if ¬ i2 = (iI (1)) then F_X3_referenceOf_27 a0 i1 i2  M else (if ([2] : List Nat).contains (mK M a0) = true then (if ev_isI (mK M (mA M a0 14)) = true ∧ ev_in i1 (mN M (mA M a0 14)) = true then F_X3_referenceOf_47  (mI M (mA M a0 14) (ev_ix i1)) M else none) else none))
theorem sF_X3_referenceOf_13 {a0 : Nat} {i1 : Int32} {i2 : Int32}   {M : ev_M} {Q : Nat → Value → ev_M → Prop} {r : (Int32 × ev_M)} (h : F_X3_referenceOf_13 a0 i1 i2  M = some r) (hq : Q 0 (.int r.1) r.2) : XP ev_prog b_X3_referenceOf_13 [.ref a0, .int i1, .int i2] [] M Q := by
  unfold F_X3_referenceOf_13 at h
  refine x_iloadn2.mpr ?_
  refine x_iconst.mpr ?_
  rcases ife h with ⟨hc, h⟩ | ⟨hc, h⟩
  · rw [x_icmp_ne, if_pos hc, bk_X3_referenceOf_27]
    exact sF_X3_referenceOf_27 h hq
  · rw [x_icmp_ne, if_neg hc]
    refine x_aloadn0.mpr ?_
    obtain ⟨hc, h⟩ := gd h
    refine (x_getf4 hc).mpr ?_
    refine x_iloadn1.mpr ?_
    obtain ⟨hc, h⟩ := gd h
    refine (x_iaload hc.1 hc.2).mpr ?_
    refine x_goto.mpr ?_
    rw [bk_X3_referenceOf_47]
    exact sF_X3_referenceOf_47 h hq
def F_X3_referenceOf_0 (a0 : Nat) (i1 : Int32) (i2 : Int32)  (M : ev_M) : Option (Int32 × ev_M) := (if ¬ i2 = 0 then F_X3_referenceOf_13 a0 i1 i2  M else (if ([2] : List Nat).contains (mK M a0) = true then (if ev_isI (mK M (mA M a0 13)) = true ∧ ev_in i1 (mN M (mA M a0 13)) = true then F_X3_referenceOf_47  (mI M (mA M a0 13) (ev_ix i1)) M else none) else none))
theorem sF_X3_referenceOf_0 {a0 : Nat} {i1 : Int32} {i2 : Int32}   {M : ev_M} {Q : Nat → Value → ev_M → Prop} {r : (Int32 × ev_M)} (h : F_X3_referenceOf_0 a0 i1 i2  M = some r) (hq : Q 0 (.int r.1) r.2) : XP ev_prog b_X3_referenceOf_0 [.ref a0, .int i1, .int i2] [] M Q := by
  unfold F_X3_referenceOf_0 at h
  refine x_iloadn2.mpr ?_
  rcases ife h with ⟨hc, h⟩ | ⟨hc, h⟩
  · rw [x_if_ne, if_pos hc, bk_X3_referenceOf_13]
    exact sF_X3_referenceOf_13 h hq
  · rw [x_if_ne, if_neg hc]
    refine x_aloadn0.mpr ?_
    obtain ⟨hc, h⟩ := gd h
    refine (x_getf4 hc).mpr ?_
    refine x_iloadn1.mpr ?_
    obtain ⟨hc, h⟩ := gd h
    refine (x_iaload hc.1 hc.2).mpr ?_
    refine x_goto.mpr ?_
    rw [bk_X3_referenceOf_47]
    exact sF_X3_referenceOf_47 h hq
def f_X3_referenceOf (a0 : Nat) (i1 : Int32) (i2 : Int32) (M : ev_M) : Option (Int32 × ev_M) := F_X3_referenceOf_0 a0 i1 i2 M
theorem sf_X3_referenceOf {a0 : Nat} {i1 : Int32} {i2 : Int32} {M : ev_M} {Q : Nat → Value → ev_M → Prop} {r : (Int32 × ev_M)} (h : f_X3_referenceOf a0 i1 i2 M = some r) (hq : Q 0 (.int r.1) r.2) : CX ev_prog 180 [.ref a0, .int i1, .int i2] M Q := by
  rw [cx_open (ls := [.ref a0, .int i1, .int i2]) bk_X3_referenceOf_0 rfl ml_X3_referenceOf rfl]
  exact sF_X3_referenceOf_0 h hq
def F_X3_reference_41  (s0 : Int32) (M : ev_M) : Option (Int32 × ev_M) := some (s0, M)
theorem sF_X3_reference_41  {s0 : Int32} {z0 : Value} {z1 : Value} {z2 : Value} {z3 : Value} {M : ev_M} {Q : Nat → Value → ev_M → Prop} {r : (Int32 × ev_M)} (h : F_X3_reference_41  s0 M = some r) (hq : Q 0 (.int r.1) r.2) : XP ev_prog b_X3_reference_41 [z0, z1, z2, z3] [.int s0] M Q := by
  unfold F_X3_reference_41 at h
  refine x_kill.mpr ?_
  show XP ev_prog _ [jk, jk, jk, jk] [.int s0] M Q
  cases h
  exact x_ireturn.mpr hq
def F_X3_reference_39   (M : ev_M) : Option (Int32 × ev_M) := F_X3_reference_41  (iI (-(2147483648 : Nat))) M
theorem sF_X3_reference_39   {z0 : Value} {z1 : Value} {z2 : Value} {z3 : Value} {M : ev_M} {Q : Nat → Value → ev_M → Prop} {r : (Int32 × ev_M)} (h : F_X3_reference_39   M = some r) (hq : Q 0 (.int r.1) r.2) : XP ev_prog b_X3_reference_39 [z0, z1, z2, z3] [] M Q := by
  unfold F_X3_reference_39 at h
  refine x_kill.mpr ?_
  show XP ev_prog _ [jk, jk, jk, jk] [] M Q
  refine x_ldc1.mpr ?_
  refine x_fall.mpr ?_
  rw [bk_X3_reference_41]
  exact sF_X3_reference_41 h hq
def F_X3_reference_0 (a0 : Nat) (i1 : Int32) (i2 : Int32) (i3 : Int32)  (M : ev_M) : Option (Int32 × ev_M) := (if ¬ a0 = 0 ∧ mK M a0 = 2 then (f_X3_isStatement a0 i1 M).bind fun r2_1 => (if r2_1.1 = 0 then F_X3_reference_39   r2_1.2 else (f_X3_in i2 (iI (0)) (iI (2)) r2_1.2).bind fun r11_1 => (if r11_1.1 = 0 then F_X3_reference_39   r11_1.2 else (f_X3_in i3 (iI (0)) (iI (3)) r11_1.2).bind fun r20_1 => (if r20_1.1 = 0 then F_X3_reference_39   r20_1.2 else (if ¬ a0 = 0 ∧ mK r20_1.2 a0 = 2 then (f_X3_referenceOf a0 (((iI (3)) * i1) + i2) i3 r20_1.2).bind fun r33_1 => F_X3_reference_41  r33_1.1 r33_1.2 else none)))) else none)
theorem sF_X3_reference_0 {a0 : Nat} {i1 : Int32} {i2 : Int32} {i3 : Int32}   {M : ev_M} {Q : Nat → Value → ev_M → Prop} {r : (Int32 × ev_M)} (h : F_X3_reference_0 a0 i1 i2 i3  M = some r) (hq : Q 0 (.int r.1) r.2) : XP ev_prog b_X3_reference_0 [.ref a0, .int i1, .int i2, .int i3] [] M Q := by
  unfold F_X3_reference_0 at h
  refine x_aloadn0.mpr ?_
  refine x_iloadn1.mpr ?_
  obtain ⟨hc, h⟩ := gd h
  obtain ⟨r2_1, hz, h⟩ := Option.bind_eq_some_iff.mp h
  refine (y_virt2 ml_X3_isStatement (by show 2 ≤ 2; decide) hc.1 hc.2 rfl (by decide) (by show ¬ 8 < 0; decide)).mpr ?_
  refine sf_X3_isStatement hz ?_
  refine xk0.mpr ?_
  show XP ev_prog _ _ (.int r2_1.1 :: _) r2_1.2 Q
  rcases ife h with ⟨hc, h⟩ | ⟨hc, h⟩
  · rw [x_if_eq, if_pos hc, bk_X3_reference_39]
    exact sF_X3_reference_39 h hq
  · rw [x_if_eq, if_neg hc]
    refine x_iloadn2.mpr ?_
    refine x_iconst.mpr ?_
    refine x_iconst.mpr ?_
    obtain ⟨r11_1, hz, h⟩ := Option.bind_eq_some_iff.mp h
    refine (y_stat3 ml_X3_in (by show 3 ≤ 3; decide) (by decide) (by decide) (by show ¬ 8 < 0; decide)).mpr ?_
    refine sf_X3_in hz ?_
    refine xk0.mpr ?_
    show XP ev_prog _ _ (.int r11_1.1 :: _) r11_1.2 Q
    rcases ife h with ⟨hc, h⟩ | ⟨hc, h⟩
    · rw [x_if_eq, if_pos hc, bk_X3_reference_39]
      exact sF_X3_reference_39 h hq
    · rw [x_if_eq, if_neg hc]
      refine x_iloadn3.mpr ?_
      refine x_iconst.mpr ?_
      refine x_iconst.mpr ?_
      obtain ⟨r20_1, hz, h⟩ := Option.bind_eq_some_iff.mp h
      refine (y_stat3 ml_X3_in (by show 3 ≤ 3; decide) (by decide) (by decide) (by show ¬ 8 < 0; decide)).mpr ?_
      refine sf_X3_in hz ?_
      refine xk0.mpr ?_
      show XP ev_prog _ _ (.int r20_1.1 :: _) r20_1.2 Q
      rcases ife h with ⟨hc, h⟩ | ⟨hc, h⟩
      · rw [x_if_eq, if_pos hc, bk_X3_reference_39]
        exact sF_X3_reference_39 h hq
      · rw [x_if_eq, if_neg hc]
        refine x_aloadn0.mpr ?_
        refine x_iconst.mpr ?_
        refine x_iloadn1.mpr ?_
        refine (x_imul).mpr ?_
        refine x_iloadn2.mpr ?_
        refine (x_iadd).mpr ?_
        refine x_iloadn3.mpr ?_
        obtain ⟨hc, h⟩ := gd h
        obtain ⟨r33_1, hz, h⟩ := Option.bind_eq_some_iff.mp h
        refine (y_virt3 ml_X3_referenceOf (by show 3 ≤ 3; decide) hc.1 hc.2 rfl (by decide) (by show ¬ 8 < 0; decide)).mpr ?_
        refine sf_X3_referenceOf hz ?_
        refine xk0.mpr ?_
        show XP ev_prog _ _ (.int r33_1.1 :: _) r33_1.2 Q
        refine x_goto.mpr ?_
        rw [bk_X3_reference_41]
        exact sF_X3_reference_41 h hq
def f_X3_reference (a0 : Nat) (i1 : Int32) (i2 : Int32) (i3 : Int32) (M : ev_M) : Option (Int32 × ev_M) := F_X3_reference_0 a0 i1 i2 i3 M
theorem sf_X3_reference {a0 : Nat} {i1 : Int32} {i2 : Int32} {i3 : Int32} {M : ev_M} {Q : Nat → Value → ev_M → Prop} {r : (Int32 × ev_M)} (h : f_X3_reference a0 i1 i2 i3 M = some r) (hq : Q 0 (.int r.1) r.2) : CX ev_prog 181 [.ref a0, .int i1, .int i2, .int i3] M Q := by
  rw [cx_open (ls := [.ref a0, .int i1, .int i2, .int i3]) bk_X3_reference_0 rfl ml_X3_reference rfl]
  exact sF_X3_reference_0 h hq
def F_X3_isSection_45  (s0 : Int32) (M : ev_M) : Option (Int32 × ev_M) := (if s0 = 0 ∨ s0 = 1 then some (s0, M) else none)
theorem sF_X3_isSection_45  {s0 : Int32} {z0 : Value} {z1 : Value} {z2 : Value} {M : ev_M} {Q : Nat → Value → ev_M → Prop} {r : (Int32 × ev_M)} (h : F_X3_isSection_45  s0 M = some r) (hq : Q 0 (.int r.1) r.2) : XP ev_prog b_X3_isSection_45 [z0, z1, z2] [.int s0] M Q := by
  unfold F_X3_isSection_45 at h
  refine x_kill.mpr ?_
  show XP ev_prog _ [jk, jk, jk] [.int s0] M Q
  obtain ⟨hc, h⟩ := gd h
  cases h
  exact (x_ireturnZ hc).mpr hq
def F_X3_isSection_44   (M : ev_M) : Option (Int32 × ev_M) := F_X3_isSection_45  (iI (0)) M
theorem sF_X3_isSection_44   {z0 : Value} {z1 : Value} {z2 : Value} {M : ev_M} {Q : Nat → Value → ev_M → Prop} {r : (Int32 × ev_M)} (h : F_X3_isSection_44   M = some r) (hq : Q 0 (.int r.1) r.2) : XP ev_prog b_X3_isSection_44 [z0, z1, z2] [] M Q := by
  unfold F_X3_isSection_44 at h
  refine x_kill.mpr ?_
  show XP ev_prog _ [jk, jk, jk] [] M Q
  refine x_iconst.mpr ?_
  refine x_fall.mpr ?_
  rw [bk_X3_isSection_45]
  exact sF_X3_isSection_45 h hq
def F_X3_isSection_0 (a0 : Nat) (i1 : Int32) (i2 : Int32)  (M : ev_M) : Option (Int32 × ev_M) := (if ([2] : List Nat).contains (mK M a0) = true then (f_X3_in i1 (iI (0)) (((iI (3)) * (mI M a0 7)) - (iI (1))) M).bind fun r10_1 => (if r10_1.1 = 0 then F_X3_isSection_44   r10_1.2 else (if ([2] : List Nat).contains (mK r10_1.2 a0) = true then (f_X3_in i2 (iI (0)) ((mI r10_1.2 a0 6) - (iI (1))) r10_1.2).bind fun r24_1 => (if r24_1.1 = 0 then F_X3_isSection_44   r24_1.2 else (if ([2] : List Nat).contains (mK r24_1.2 a0) = true then (if ev_isI (mK r24_1.2 (mA r24_1.2 a0 13)) = true ∧ ev_in i1 (mN r24_1.2 (mA r24_1.2 a0 13)) = true then (if (mI r24_1.2 (mA r24_1.2 a0 13) (ev_ix i1)) = (iI (-1)) then F_X3_isSection_44   r24_1.2 else F_X3_isSection_45  (iI (1)) r24_1.2) else none) else none)) else none)) else none)
theorem sF_X3_isSection_0 {a0 : Nat} {i1 : Int32} {i2 : Int32}   {M : ev_M} {Q : Nat → Value → ev_M → Prop} {r : (Int32 × ev_M)} (h : F_X3_isSection_0 a0 i1 i2  M = some r) (hq : Q 0 (.int r.1) r.2) : XP ev_prog b_X3_isSection_0 [.ref a0, .int i1, .int i2] [] M Q := by
  unfold F_X3_isSection_0 at h
  refine x_iloadn1.mpr ?_
  refine x_iconst.mpr ?_
  refine x_iconst.mpr ?_
  refine x_aloadn0.mpr ?_
  obtain ⟨hc, h⟩ := gd h
  refine (x_getf0 hc).mpr ?_
  refine (x_imul).mpr ?_
  refine x_iconst.mpr ?_
  refine (x_isub).mpr ?_
  obtain ⟨r10_1, hz, h⟩ := Option.bind_eq_some_iff.mp h
  refine (y_stat3 ml_X3_in (by show 3 ≤ 3; decide) (by decide) (by decide) (by show ¬ 8 < 0; decide)).mpr ?_
  refine sf_X3_in hz ?_
  refine xk0.mpr ?_
  show XP ev_prog _ _ (.int r10_1.1 :: _) r10_1.2 Q
  rcases ife h with ⟨hc, h⟩ | ⟨hc, h⟩
  · rw [x_if_eq, if_pos hc, bk_X3_isSection_44]
    exact sF_X3_isSection_44 h hq
  · rw [x_if_eq, if_neg hc]
    refine x_iloadn2.mpr ?_
    refine x_iconst.mpr ?_
    refine x_aloadn0.mpr ?_
    obtain ⟨hc, h⟩ := gd h
    refine (x_getf0 hc).mpr ?_
    refine x_iconst.mpr ?_
    refine (x_isub).mpr ?_
    obtain ⟨r24_1, hz, h⟩ := Option.bind_eq_some_iff.mp h
    refine (y_stat3 ml_X3_in (by show 3 ≤ 3; decide) (by decide) (by decide) (by show ¬ 8 < 0; decide)).mpr ?_
    refine sf_X3_in hz ?_
    refine xk0.mpr ?_
    show XP ev_prog _ _ (.int r24_1.1 :: _) r24_1.2 Q
    rcases ife h with ⟨hc, h⟩ | ⟨hc, h⟩
    · rw [x_if_eq, if_pos hc, bk_X3_isSection_44]
      exact sF_X3_isSection_44 h hq
    · rw [x_if_eq, if_neg hc]
      refine x_aloadn0.mpr ?_
      obtain ⟨hc, h⟩ := gd h
      refine (x_getf4 hc).mpr ?_
      refine x_iloadn1.mpr ?_
      obtain ⟨hc, h⟩ := gd h
      refine (x_iaload hc.1 hc.2).mpr ?_
      refine x_iconst.mpr ?_
      rcases ife h with ⟨hc, h⟩ | ⟨hc, h⟩
      · rw [x_icmp_eq, if_pos hc, bk_X3_isSection_44]
        exact sF_X3_isSection_44 h hq
      · rw [x_icmp_eq, if_neg hc]
        refine x_iconst.mpr ?_
        refine x_goto.mpr ?_
        rw [bk_X3_isSection_45]
        exact sF_X3_isSection_45 h hq
def f_X3_isSection (a0 : Nat) (i1 : Int32) (i2 : Int32) (M : ev_M) : Option (Int32 × ev_M) := F_X3_isSection_0 a0 i1 i2 M
theorem sf_X3_isSection {a0 : Nat} {i1 : Int32} {i2 : Int32} {M : ev_M} {Q : Nat → Value → ev_M → Prop} {r : (Int32 × ev_M)} (h : f_X3_isSection a0 i1 i2 M = some r) (hq : Q 0 (.int r.1) r.2) : CX ev_prog 193 [.ref a0, .int i1, .int i2] M Q := by
  rw [cx_open (ls := [.ref a0, .int i1, .int i2]) bk_X3_isSection_0 rfl ml_X3_isSection rfl]
  exact sF_X3_isSection_0 h hq
def F_X3_placeOf_0 (a0 : Nat) (i1 : Int32) (i2 : Int32) (i3 : Int32)  (M : ev_M) : Option (Int32 × ev_M) := (if ([2] : List Nat).contains (mK M a0) = true then (if ev_isI (mK M (mA M a0 14)) = true ∧ ev_in i1 (mN M (mA M a0 14)) = true then (if ([2] : List Nat).contains (mK M a0) = true then (if ev_isI (mK M (mA M a0 15)) = true ∧ ev_in i1 (mN M (mA M a0 15)) = true then (if ([2] : List Nat).contains (mK M a0) = true then (if ev_isI (mK M (mA M a0 16)) = true ∧ ev_in i1 (mN M (mA M a0 16)) = true then some ((((mI M (mA M a0 14) (ev_ix i1)) + ((mI M (mA M a0 15) (ev_ix i1)) * i2)) + ((mI M (mA M a0 16) (ev_ix i1)) * i3)), M) else none) else none) else none) else none) else none) else none)
theorem sF_X3_placeOf_0 {a0 : Nat} {i1 : Int32} {i2 : Int32} {i3 : Int32}   {M : ev_M} {Q : Nat → Value → ev_M → Prop} {r : (Int32 × ev_M)} (h : F_X3_placeOf_0 a0 i1 i2 i3  M = some r) (hq : Q 0 (.int r.1) r.2) : XP ev_prog b_X3_placeOf_0 [.ref a0, .int i1, .int i2, .int i3] [] M Q := by
  unfold F_X3_placeOf_0 at h
  refine x_aloadn0.mpr ?_
  obtain ⟨hc, h⟩ := gd h
  refine (x_getf4 hc).mpr ?_
  refine x_iloadn1.mpr ?_
  obtain ⟨hc, h⟩ := gd h
  refine (x_iaload hc.1 hc.2).mpr ?_
  refine x_aloadn0.mpr ?_
  obtain ⟨hc, h⟩ := gd h
  refine (x_getf4 hc).mpr ?_
  refine x_iloadn1.mpr ?_
  obtain ⟨hc, h⟩ := gd h
  refine (x_iaload hc.1 hc.2).mpr ?_
  refine x_iloadn2.mpr ?_
  refine (x_imul).mpr ?_
  refine (x_iadd).mpr ?_
  refine x_aloadn0.mpr ?_
  obtain ⟨hc, h⟩ := gd h
  refine (x_getf4 hc).mpr ?_
  refine x_iloadn1.mpr ?_
  obtain ⟨hc, h⟩ := gd h
  refine (x_iaload hc.1 hc.2).mpr ?_
  refine x_iloadn3.mpr ?_
  refine (x_imul).mpr ?_
  refine (x_iadd).mpr ?_
  cases h
  exact x_ireturn.mpr hq
def f_X3_placeOf (a0 : Nat) (i1 : Int32) (i2 : Int32) (i3 : Int32) (M : ev_M) : Option (Int32 × ev_M) := F_X3_placeOf_0 a0 i1 i2 i3 M
theorem sf_X3_placeOf {a0 : Nat} {i1 : Int32} {i2 : Int32} {i3 : Int32} {M : ev_M} {Q : Nat → Value → ev_M → Prop} {r : (Int32 × ev_M)} (h : f_X3_placeOf a0 i1 i2 i3 M = some r) (hq : Q 0 (.int r.1) r.2) : CX ev_prog 194 [.ref a0, .int i1, .int i2, .int i3] M Q := by
  rw [cx_open (ls := [.ref a0, .int i1, .int i2, .int i3]) bk_X3_placeOf_0 rfl ml_X3_placeOf rfl]
  exact sF_X3_placeOf_0 h hq
def F_X3_firstOf_38  (s0 : Int32) (M : ev_M) : Option (Int32 × ev_M) := some (s0, M)
theorem sF_X3_firstOf_38  {s0 : Int32} {z0 : Value} {z1 : Value} {z2 : Value} {z3 : Value} {z4 : Value} {M : ev_M} {Q : Nat → Value → ev_M → Prop} {r : (Int32 × ev_M)} (h : F_X3_firstOf_38  s0 M = some r) (hq : Q 0 (.int r.1) r.2) : XP ev_prog b_X3_firstOf_38 [z0, z1, z2, z3, z4] [.int s0] M Q := by
  unfold F_X3_firstOf_38 at h
  refine x_kill.mpr ?_
  show XP ev_prog _ [jk, jk, jk, jk, jk] [.int s0] M Q
  cases h
  exact x_ireturn.mpr hq
def F_X3_firstOf_37 (i3 : Int32)  (M : ev_M) : Option (Int32 × ev_M) := F_X3_firstOf_38  i3 M
theorem sF_X3_firstOf_37 {i3 : Int32}  {z0 : Value} {z1 : Value} {z2 : Value} {z4 : Value} {M : ev_M} {Q : Nat → Value → ev_M → Prop} {r : (Int32 × ev_M)} (h : F_X3_firstOf_37 i3  M = some r) (hq : Q 0 (.int r.1) r.2) : XP ev_prog b_X3_firstOf_37 [z0, z1, z2, .int i3, z4] [] M Q := by
  unfold F_X3_firstOf_37 at h
  refine x_iloadn3.mpr ?_
  refine x_fall.mpr ?_
  rw [bk_X3_firstOf_38]
  exact sF_X3_firstOf_38 h hq
def F_X3_firstOf_0 (a0 : Nat) (i1 : Int32) (i2 : Int32)  (M : ev_M) : Option (Int32 × ev_M) := (if ([2] : List Nat).contains (mK M a0) = true then (if ¬ (iI (3)) = 0 then (if ev_isI (mK M (mA M a0 9)) = true ∧ ev_in (i1 / (iI (3))) (mN M (mA M a0 9)) = true then (if ¬ a0 = 0 ∧ mK M a0 = 2 then (f_X3_placeOf a0 i1 i2 ((mI M (mA M a0 9) (ev_ix (i1 / (iI (3))))) - (iI (1))) M).bind fun r13_1 => (if ¬ a0 = 0 ∧ mK r13_1.2 a0 = 2 then (f_X3_placeOf a0 i1 i2 (iI (0)) r13_1.2).bind fun r21_2 => (if r13_1.1 ≤ r21_2.1 then F_X3_firstOf_37 r13_1.1  r21_2.2 else F_X3_firstOf_38  r21_2.1 r21_2.2) else none) else none) else none) else none) else none)
theorem sF_X3_firstOf_0 {a0 : Nat} {i1 : Int32} {i2 : Int32}  {z3 : Value} {z4 : Value} {M : ev_M} {Q : Nat → Value → ev_M → Prop} {r : (Int32 × ev_M)} (h : F_X3_firstOf_0 a0 i1 i2  M = some r) (hq : Q 0 (.int r.1) r.2) : XP ev_prog b_X3_firstOf_0 [.ref a0, .int i1, .int i2, z3, z4] [] M Q := by
  unfold F_X3_firstOf_0 at h
  refine x_aloadn0.mpr ?_
  refine x_iloadn1.mpr ?_
  refine x_iloadn2.mpr ?_
  refine x_aloadn0.mpr ?_
  obtain ⟨hc, h⟩ := gd h
  refine (x_getf4 hc).mpr ?_
  refine x_iloadn1.mpr ?_
  refine x_iconst.mpr ?_
  obtain ⟨hc, h⟩ := gd h
  refine (x_idiv hc).mpr ?_
  obtain ⟨hc, h⟩ := gd h
  refine (x_iaload hc.1 hc.2).mpr ?_
  refine x_iconst.mpr ?_
  refine (x_isub).mpr ?_
  obtain ⟨hc, h⟩ := gd h
  obtain ⟨r13_1, hz, h⟩ := Option.bind_eq_some_iff.mp h
  refine (y_virt4 ml_X3_placeOf (by show 4 ≤ 4; decide) hc.1 hc.2 rfl (by decide) (by show ¬ 8 < 0; decide)).mpr ?_
  refine sf_X3_placeOf hz ?_
  refine xk0.mpr ?_
  show XP ev_prog _ _ (.int r13_1.1 :: _) r13_1.2 Q
  refine x_istoren3.mpr ?_
  refine x_aloadn0.mpr ?_
  refine x_iloadn1.mpr ?_
  refine x_iloadn2.mpr ?_
  refine x_iconst.mpr ?_
  obtain ⟨hc, h⟩ := gd h
  obtain ⟨r21_2, hz, h⟩ := Option.bind_eq_some_iff.mp h
  refine (y_virt4 ml_X3_placeOf (by show 4 ≤ 4; decide) hc.1 hc.2 rfl (by decide) (by show ¬ 8 < 0; decide)).mpr ?_
  refine sf_X3_placeOf hz ?_
  refine xk0.mpr ?_
  show XP ev_prog _ _ (.int r21_2.1 :: _) r21_2.2 Q
  refine x_istore4.mpr ?_
  refine x_iload4.mpr ?_
  refine x_iloadn3.mpr ?_
  rcases ife h with ⟨hc, h⟩ | ⟨hc, h⟩
  · rw [x_icmp_ge, if_pos hc, bk_X3_firstOf_37]
    exact sF_X3_firstOf_37 h hq
  · rw [x_icmp_ge, if_neg hc]
    refine x_iload4.mpr ?_
    refine x_goto.mpr ?_
    rw [bk_X3_firstOf_38]
    exact sF_X3_firstOf_38 h hq
def f_X3_firstOf (a0 : Nat) (i1 : Int32) (i2 : Int32) (M : ev_M) : Option (Int32 × ev_M) := F_X3_firstOf_0 a0 i1 i2 M
theorem sf_X3_firstOf {a0 : Nat} {i1 : Int32} {i2 : Int32} {M : ev_M} {Q : Nat → Value → ev_M → Prop} {r : (Int32 × ev_M)} (h : f_X3_firstOf a0 i1 i2 M = some r) (hq : Q 0 (.int r.1) r.2) : CX ev_prog 195 [.ref a0, .int i1, .int i2] M Q := by
  rw [cx_open (ls := [.ref a0, .int i1, .int i2, jk, jk]) bk_X3_firstOf_0 rfl ml_X3_firstOf rfl]
  exact sF_X3_firstOf_0 h hq
def F_X3_manyOf_21  (s0 : Int32) (M : ev_M) : Option (Int32 × ev_M) := some (s0, M)
theorem sF_X3_manyOf_21  {s0 : Int32} {z0 : Value} {z1 : Value} {M : ev_M} {Q : Nat → Value → ev_M → Prop} {r : (Int32 × ev_M)} (h : F_X3_manyOf_21  s0 M = some r) (hq : Q 0 (.int r.1) r.2) : XP ev_prog b_X3_manyOf_21 [z0, z1] [.int s0] M Q := by
  unfold F_X3_manyOf_21 at h
  refine x_kill.mpr ?_
  show XP ev_prog _ [jk, jk] [.int s0] M Q
  cases h
  exact x_ireturn.mpr hq
def F_X3_manyOf_13 (a0 : Nat) (i1 : Int32)  (M : ev_M) : Option (Int32 × ev_M) := (if ([2] : List Nat).contains (mK M a0) = true then (if ¬ (iI (3)) = 0 then (if ev_isI (mK M (mA M a0 9)) = true ∧ ev_in (i1 / (iI (3))) (mN M (mA M a0 9)) = true then F_X3_manyOf_21  (mI M (mA M a0 9) (ev_ix (i1 / (iI (3))))) M else none) else none) else none)
theorem sF_X3_manyOf_13 {a0 : Nat} {i1 : Int32}   {M : ev_M} {Q : Nat → Value → ev_M → Prop} {r : (Int32 × ev_M)} (h : F_X3_manyOf_13 a0 i1  M = some r) (hq : Q 0 (.int r.1) r.2) : XP ev_prog b_X3_manyOf_13 [.ref a0, .int i1] [] M Q := by
  unfold F_X3_manyOf_13 at h
  refine x_aloadn0.mpr ?_
  obtain ⟨hc, h⟩ := gd h
  refine (x_getf4 hc).mpr ?_
  refine x_iloadn1.mpr ?_
  refine x_iconst.mpr ?_
  obtain ⟨hc, h⟩ := gd h
  refine (x_idiv hc).mpr ?_
  obtain ⟨hc, h⟩ := gd h
  refine (x_iaload hc.1 hc.2).mpr ?_
  refine x_fall.mpr ?_
  rw [bk_X3_manyOf_21]
  exact sF_X3_manyOf_21 h hq
def F_X3_manyOf_0 (a0 : Nat) (i1 : Int32)  (M : ev_M) : Option (Int32 × ev_M) := (if ([2] : List Nat).contains (mK M a0) = true then (if ev_isI (mK M (mA M a0 16)) = true ∧ ev_in i1 (mN M (mA M a0 16)) = true then (if ¬ (mI M (mA M a0 16) (ev_ix i1)) = 0 then F_X3_manyOf_13 a0 i1  M else F_X3_manyOf_21  (iI (1)) M) else none) else none)
theorem sF_X3_manyOf_0 {a0 : Nat} {i1 : Int32}   {M : ev_M} {Q : Nat → Value → ev_M → Prop} {r : (Int32 × ev_M)} (h : F_X3_manyOf_0 a0 i1  M = some r) (hq : Q 0 (.int r.1) r.2) : XP ev_prog b_X3_manyOf_0 [.ref a0, .int i1] [] M Q := by
  unfold F_X3_manyOf_0 at h
  refine x_aloadn0.mpr ?_
  obtain ⟨hc, h⟩ := gd h
  refine (x_getf4 hc).mpr ?_
  refine x_iloadn1.mpr ?_
  obtain ⟨hc, h⟩ := gd h
  refine (x_iaload hc.1 hc.2).mpr ?_
  rcases ife h with ⟨hc, h⟩ | ⟨hc, h⟩
  · rw [x_if_ne, if_pos hc, bk_X3_manyOf_13]
    exact sF_X3_manyOf_13 h hq
  · rw [x_if_ne, if_neg hc]
    refine x_iconst.mpr ?_
    refine x_goto.mpr ?_
    rw [bk_X3_manyOf_21]
    exact sF_X3_manyOf_21 h hq
def f_X3_manyOf (a0 : Nat) (i1 : Int32) (M : ev_M) : Option (Int32 × ev_M) := F_X3_manyOf_0 a0 i1 M
theorem sf_X3_manyOf {a0 : Nat} {i1 : Int32} {M : ev_M} {Q : Nat → Value → ev_M → Prop} {r : (Int32 × ev_M)} (h : f_X3_manyOf a0 i1 M = some r) (hq : Q 0 (.int r.1) r.2) : CX ev_prog 196 [.ref a0, .int i1] M Q := by
  rw [cx_open (ls := [.ref a0, .int i1]) bk_X3_manyOf_0 rfl ml_X3_manyOf rfl]
  exact sF_X3_manyOf_0 h hq
def F_X3_strideOf_38  (s0 : Int32) (M : ev_M) : Option (Int32 × ev_M) := some (s0, M)
theorem sF_X3_strideOf_38  {s0 : Int32} {z0 : Value} {z1 : Value} {M : ev_M} {Q : Nat → Value → ev_M → Prop} {r : (Int32 × ev_M)} (h : F_X3_strideOf_38  s0 M = some r) (hq : Q 0 (.int r.1) r.2) : XP ev_prog b_X3_strideOf_38 [z0, z1] [.int s0] M Q := by
  unfold F_X3_strideOf_38 at h
  refine x_kill.mpr ?_
  show XP ev_prog _ [jk, jk] [.int s0] M Q
  cases h
  exact x_ireturn.mpr hq
def F_X3_strideOf_32 (a0 : Nat) (i1 : Int32)  (M : ev_M) : Option (Int32 × ev_M) := (if ([2] : List Nat).contains (mK M a0) = true then (if ev_isI (mK M (mA M a0 16)) = true ∧ ev_in i1 (mN M (mA M a0 16)) = true then F_X3_strideOf_38  (mI M (mA M a0 16) (ev_ix i1)) M else none) else none)
theorem sF_X3_strideOf_32 {a0 : Nat} {i1 : Int32}   {M : ev_M} {Q : Nat → Value → ev_M → Prop} {r : (Int32 × ev_M)} (h : F_X3_strideOf_32 a0 i1  M = some r) (hq : Q 0 (.int r.1) r.2) : XP ev_prog b_X3_strideOf_32 [.ref a0, .int i1] [] M Q := by
  unfold F_X3_strideOf_32 at h
  refine x_aloadn0.mpr ?_
  obtain ⟨hc, h⟩ := gd h
  refine (x_getf4 hc).mpr ?_
  refine x_iloadn1.mpr ?_
  obtain ⟨hc, h⟩ := gd h
  refine (x_iaload hc.1 hc.2).mpr ?_
  refine x_fall.mpr ?_
  rw [bk_X3_strideOf_38]
  exact sF_X3_strideOf_38 h hq
def F_X3_strideOf_13 (a0 : Nat) (i1 : Int32)  (M : ev_M) : Option (Int32 × ev_M) := (if ([2] : List Nat).contains (mK M a0) = true then (if ev_isI (mK M (mA M a0 16)) = true ∧ ev_in i1 (mN M (mA M a0 16)) = true then (if 0 ≤ (mI M (mA M a0 16) (ev_ix i1)) then F_X3_strideOf_32 a0 i1  M else (if ([2] : List Nat).contains (mK M a0) = true then (if ev_isI (mK M (mA M a0 16)) = true ∧ ev_in i1 (mN M (mA M a0 16)) = true then F_X3_strideOf_38  (-(mI M (mA M a0 16) (ev_ix i1))) M else none) else none)) else none) else none)
theorem sF_X3_strideOf_13 {a0 : Nat} {i1 : Int32}   {M : ev_M} {Q : Nat → Value → ev_M → Prop} {r : (Int32 × ev_M)} (h : F_X3_strideOf_13 a0 i1  M = some r) (hq : Q 0 (.int r.1) r.2) : XP ev_prog b_X3_strideOf_13 [.ref a0, .int i1] [] M Q := by
  unfold F_X3_strideOf_13 at h
  refine x_aloadn0.mpr ?_
  obtain ⟨hc, h⟩ := gd h
  refine (x_getf4 hc).mpr ?_
  refine x_iloadn1.mpr ?_
  obtain ⟨hc, h⟩ := gd h
  refine (x_iaload hc.1 hc.2).mpr ?_
  rcases ife h with ⟨hc, h⟩ | ⟨hc, h⟩
  · rw [x_if_ge, if_pos hc, bk_X3_strideOf_32]
    exact sF_X3_strideOf_32 h hq
  · rw [x_if_ge, if_neg hc]
    refine x_aloadn0.mpr ?_
    obtain ⟨hc, h⟩ := gd h
    refine (x_getf4 hc).mpr ?_
    refine x_iloadn1.mpr ?_
    obtain ⟨hc, h⟩ := gd h
    refine (x_iaload hc.1 hc.2).mpr ?_
    refine (x_ineg).mpr ?_
    refine x_goto.mpr ?_
    rw [bk_X3_strideOf_38]
    exact sF_X3_strideOf_38 h hq
def F_X3_strideOf_0 (a0 : Nat) (i1 : Int32)  (M : ev_M) : Option (Int32 × ev_M) := (if ¬ a0 = 0 ∧ mK M a0 = 2 then (f_X3_manyOf a0 i1 M).bind fun r2_1 => (if ¬ r2_1.1 = (iI (1)) then F_X3_strideOf_13 a0 i1  r2_1.2 else F_X3_strideOf_38  (iI (1)) r2_1.2) else none)
theorem sF_X3_strideOf_0 {a0 : Nat} {i1 : Int32}   {M : ev_M} {Q : Nat → Value → ev_M → Prop} {r : (Int32 × ev_M)} (h : F_X3_strideOf_0 a0 i1  M = some r) (hq : Q 0 (.int r.1) r.2) : XP ev_prog b_X3_strideOf_0 [.ref a0, .int i1] [] M Q := by
  unfold F_X3_strideOf_0 at h
  refine x_aloadn0.mpr ?_
  refine x_iloadn1.mpr ?_
  obtain ⟨hc, h⟩ := gd h
  obtain ⟨r2_1, hz, h⟩ := Option.bind_eq_some_iff.mp h
  refine (y_virt2 ml_X3_manyOf (by show 2 ≤ 2; decide) hc.1 hc.2 rfl (by decide) (by show ¬ 8 < 0; decide)).mpr ?_
  refine sf_X3_manyOf hz ?_
  refine xk0.mpr ?_
  show XP ev_prog _ _ (.int r2_1.1 :: _) r2_1.2 Q
  refine x_iconst.mpr ?_
  rcases ife h with ⟨hc, h⟩ | ⟨hc, h⟩
  · rw [x_icmp_ne, if_pos hc, bk_X3_strideOf_13]
    exact sF_X3_strideOf_13 h hq
  · rw [x_icmp_ne, if_neg hc]
    refine x_iconst.mpr ?_
    refine x_goto.mpr ?_
    rw [bk_X3_strideOf_38]
    exact sF_X3_strideOf_38 h hq
def f_X3_strideOf (a0 : Nat) (i1 : Int32) (M : ev_M) : Option (Int32 × ev_M) := F_X3_strideOf_0 a0 i1 M
theorem sf_X3_strideOf {a0 : Nat} {i1 : Int32} {M : ev_M} {Q : Nat → Value → ev_M → Prop} {r : (Int32 × ev_M)} (h : f_X3_strideOf a0 i1 M = some r) (hq : Q 0 (.int r.1) r.2) : CX ev_prog 197 [.ref a0, .int i1] M Q := by
  rw [cx_open (ls := [.ref a0, .int i1]) bk_X3_strideOf_0 rfl ml_X3_strideOf rfl]
  exact sF_X3_strideOf_0 h hq
