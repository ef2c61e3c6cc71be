/-! SOUNDNESS: exceptions (by gen/exc.py) -/
theorem ew_in (L : List Cond) (ps : List Nat) (hp : L = ps.filterMap (fun i => lw_tbl[i]?)) : ∀ w ∈ L, w ∈ lw_tbl := by
  intro w h
  rw [hp] at h
  obtain ⟨i, -, hi⟩ := List.mem_filterMap.mp h
  exact List.mem_of_getElem? hi
/-- the superclasses' names -/
def exsup (e : Nat) : List String := match e with
  | 3 => ["java/lang/IndexOutOfBoundsException", "java/lang/RuntimeException", "java/lang/Exception"]
  | _ => ["java/lang/RuntimeException", "java/lang/Exception"]
def ew_ok (w : Cond) : Bool := (goodWord w || (nwW w && w.onTables)) && vx_ot w
theorem ew_2 : ∀ w ∈ vx_atM (exn 2) (exsup 2), w ∈ lw_tbl := ew_in _ [152, 955, 964, 984, 987, 989, 956, 957, 193, 194, 958, 963, 985, 1005, 945, 1006, 947, 1007, 949, 959, 961, 951, 1001, 1002, 1004, 951, 1285, 1286, 1287, 995, 937, 995, 996, 997, 998, 939, 998, 999, 1000, 1001, 941, 138, 1204, 274, 1205, 1207, 1206, 1208, 165, 1284, 1295, 1296, 968, 1290, 1291, 1293, 1289, 1003, 953, 1288] (by decide +kernel)
theorem ek_2 : (vx_atM (exn 2) (exsup 2)).all ew_ok = true := by decide +kernel
theorem ew_3 : ∀ w ∈ vx_atM (exn 3) (exsup 3), w ∈ lw_tbl := ew_in _ [152, 955, 964, 984, 987, 989, 956, 957, 193, 194, 958, 963, 985, 1005, 945, 1006, 947, 1007, 949, 959, 961, 951, 1001, 1002, 1004, 951, 1299, 1300, 1301, 1302, 1314, 1302, 1303, 1304, 995, 937, 995, 996, 997, 998, 939, 998, 999, 1000, 1001, 941, 138, 1204, 274, 1205, 1207, 1206, 1208, 167, 1298, 1312, 1315, 966, 1307, 1308, 1310, 1306, 1003, 953, 1305] (by decide +kernel)
theorem ek_3 : (vx_atM (exn 3) (exsup 3)).all ew_ok = true := by decide +kernel
theorem ew_4 : ∀ w ∈ vx_atM (exn 4) (exsup 4), w ∈ lw_tbl := ew_in _ [152, 955, 964, 984, 987, 989, 956, 957, 193, 194, 958, 963, 985, 1005, 945, 1006, 947, 1007, 949, 959, 961, 951, 1001, 1002, 1004, 951, 1365, 1366, 1367, 995, 937, 995, 996, 997, 998, 939, 998, 999, 1000, 1001, 941, 138, 1204, 274, 1205, 1207, 1206, 1208, 170, 1364, 1375, 1376, 967, 1370, 1371, 1373, 1369, 1003, 953, 1368] (by decide +kernel)
theorem ek_4 : (vx_atM (exn 4) (exsup 4)).all ew_ok = true := by decide +kernel
theorem ew_5 : ∀ w ∈ vx_atM (exn 5) (exsup 5), w ∈ lw_tbl := ew_in _ [152, 955, 964, 984, 987, 989, 956, 957, 193, 194, 958, 963, 985, 1005, 945, 1006, 947, 1007, 949, 959, 961, 951, 1001, 1002, 1004, 951, 1192, 1193, 1194, 995, 937, 995, 996, 997, 998, 939, 998, 999, 1000, 1001, 941, 138, 1204, 274, 1205, 1207, 1206, 1208, 162, 1191, 1202, 1203, 969, 1197, 1198, 1200, 1196, 1003, 953, 1195] (by decide +kernel)
theorem ek_5 : (vx_atM (exn 5) (exsup 5)).all ew_ok = true := by decide +kernel
theorem ew_1 : ∀ w ∈ vx_atN 8, w ∈ lw_tbl := ew_in _ [152, 955, 964, 984, 987, 989, 956, 957, 193, 194, 958, 963, 985, 1005, 945, 1006, 947, 1007, 949, 959, 961, 951, 981, 971, 972, 1264, 1266, 978, 979, 1278, 1255, 1256, 1257, 1258, 936, 1258, 1259, 1260, 1261, 938, 1261, 1262, 1263, 956, 940, 164, 976, 1276, 1277, 970, 1272, 1273, 1275, 1003, 953, 1270] (by decide +kernel)
theorem ek_1 : (vx_atN 8).all ew_ok = true := by decide +kernel
theorem ew_6 : ∀ w ∈ vx_atS "java/lang/Math" 113 (exn 6) (exsup 6), w ∈ lw_tbl := ew_in _ [152, 955, 964, 984, 987, 989, 956, 957, 193, 194, 958, 963, 985, 1005, 945, 1006, 947, 1007, 949, 959, 961, 951, 1001, 1002, 1004, 951, 992, 993, 994, 995, 937, 995, 996, 997, 998, 939, 998, 999, 1000, 1001, 941, 991, 934, 935, 942, 943, 944, 946, 948, 950, 1003, 953, 952] (by decide +kernel)
theorem ek_6 : (vx_atS "java/lang/Math" 113 (exn 6) (exsup 6)).all ew_ok = true := by decide +kernel
/-- the heap goes on, nothing of ours changes -/
theorem Rel.grow {D : rl_D} {φ : Nat → Nat} {bs : Nat} {H0 H H1 : Heap} {M : ev_M} (k n : Nat) (h : Rel D φ bs H0 M H) (h1 : H.size ≤ H1.size) (h2 : ∀ q, q < H.size → H1[q]? = H[q]?) : Rel D φ bs H0 (wX M k n) H1 := by
  obtain ⟨w, r1, r2, r3, ⟨r4, r5⟩, r6, r7⟩ := h
  refine ⟨w, fun m a => Nat.lt_of_lt_of_le (r1 m a) h1, fun m => ?_, r3, ⟨Nat.le_trans r4 h1, fun q hq => by rw [h2 q (by omega)]; exact r5 q hq⟩, r6, r7⟩
  by_cases h0 : mK M m = 0
  · have h0' : mK (wX M k n) m = 0 := h0
    unfold CR
    rw [h0']
    exact ⟨fun a => absurd a (by decide), fun a => absurd a (by decide), fun a => absurd a (by decide), fun a => absurd a (by decide), fun a => absurd a (by decide)⟩
  · have hm := w.2.2.2 m h0
    exact CR_mv (r2 m) rfl rfl rfl (fun _ _ => rfl) (h2 _ (r1 m h0))
section
variable {p : Program} {l : Launch} {e : Env} {R : Room} {s : State} {m : MethodId} {args : Array Value} {below : List Frame} {meth : Method} {c : Code} {Q : State → Prop}
variable {D : rl_D} {bs : Nat} {H0 : Heap} {nL c0 s0 : Nat} {M0 : ev_M} {φ0 : Nat → Nat} {cd : ByteArray} {pc : Nat} {own : String}
theorem ew_use (hts : ∀ w ∈ lw_all, w.before args s = true) (hKW : KW s) {L : List Cond} (h1 : ∀ w ∈ L, w ∈ lw_tbl) (h2 : L.all ew_ok = true) : (∀ w ∈ L, w.before args s = true) ∧ ∀ w ∈ L, vx_ot w = true := by
  have h3 : ∀ w ∈ L, ew_ok w = true := List.all_eq_true.mp h2
  refine ⟨fun w hw => ?_, fun w hw => ?_⟩
  · have h4 := h3 w hw
    unfold ew_ok at h4
    simp only [Bool.and_eq_true, Bool.or_eq_true] at h4
    rcases h4.1 with g | g
    · exact hts _ (lw_g (h1 w hw) g)
    · exact va_Nw.use g.2 (hKW w (h1 w hw) g.1)
  · have h4 := h3 w hw
    unfold ew_ok at h4
    simp only [Bool.and_eq_true] at h4
    exact h4.2
/-- what a method needs for a throw -/
def THR (l : Launch) (R : Room) (s : State) (meth : Method) (c : Code) (bs : Nat) (H0 : Heap) (nL : Nat) : Prop := l.stackTraces = false ∧ c.maxLocals = nL ∧ meth.locks = false ∧ (∀ q, q < bs → s.heap[q]? = H0[q]?) ∧ 7 < R.frames ∧ 12000 ≤ R.locals
theorem kz_s (hKK : KK D bs H0 s) (hT : ∀ q, q < bs → s.heap[q]? = H0[q]?) : vx_Zq Bundle.tN "UNASSIGNED_STACK" Bundle.steD (bs ≤ ·) s s.heap ∧ vx_Zq Bundle.tN "SUPPRESSED_SENTINEL" Bundle.listD (bs ≤ ·) s s.heap :=
  ⟨hKK.2.2.2.2.2.2.1.1.kept fun a _ h => hT a (Nat.lt_of_not_le h), hKK.2.2.2.2.2.2.1.2.kept fun a _ h => hT a (Nat.lt_of_not_le h)⟩
theorem note_ok (hx : p.tables.exec = Jvm.exec) (hTR : THR l R s meth c bs H0 nL) (hts : ∀ w ∈ lw_all, w.before args s = true) (hKK : KK D bs H0 s) {k : Nat} (hk : k = 2 ∨ k = 3 ∨ k = 4 ∨ k = 5) {text : String} (htext : (text == notModelled) = false) (hnb : (stringBytes (stringToUtf16 text)).size ≤ 300)
    {φ : Nat → Nat} {lsA : Array Slot} {rest : List Value} {H : Heap} {locs : List Loc} {cells slots : Nat} {M : ev_M} {ls : List Value} (hE : Ext M0 φ0 φ) (hn : nx M0 ≤ nx M) (hR : Rel D φ bs H0 M H) (hL : LocR φ M ls lsA nL) (hl : ∀ z ∈ locs, bs ≤ z.base) (hc : cells + c0 = ncl M) (hs : slots + s0 = nsl M) (hsum : (rest.map fun v => v.category).sum ≤ 1000)
    (hRc : ncl M + 3 ≤ R.cells + c0) (hRs : nsl M + 310 ≤ R.slots + s0) (kk : WX p l e R s m args below meth c Q D bs H0 nL c0 s0 M0 φ0 ls (wX M 3 310) k pc) : vx_Note p l e R s m args below meth c H locs cells slots Q (F0 m pc lsA rest) (exn k) text := by
  intro T hT X
  have hfr := vx_frame X.same
  have hS : va_S (bs ≤ ·) s.heap H locs := ⟨by rw [← hT]; exact hfr.1, fun q _ h => by rw [hR.2.2.2.2.1.2 q (Nat.lt_of_not_le h), hTR.2.2.2.1 q (Nat.lt_of_not_le h)], hl⟩
  have hat : (∀ w ∈ vx_atM (exn k) (exsup k), w.before args s = true) ∧ ∀ w ∈ vx_atM (exn k) (exsup k), vx_ot w = true := by
    rcases hk with rfl | rfl | rfl | rfl
    · exact ew_use hts hKK.2.1 ew_2 ek_2
    · exact ew_use hts hKK.2.1 ew_3 ek_3
    · exact ew_use hts hKK.2.1 ew_4 ek_4
    · exact ew_use hts hKK.2.1 ew_5 ek_5
  have hz := kz_s hKK hTR.2.2.2.1
  have hsz : lsA.size = nL := by obtain ⟨-, l0, w, -⟩ := hL; exact w.1
  have hlen : (exsup k).length ≤ 3 := by rcases hk with rfl | rfl | rfl | rfl <;> decide
  refine vx_vm (cls := exn k) (names := exsup k) (nb := 300) hx hTR.1 (by rcases hk with rfl | rfl | rfl | rfl <;> decide +kernel) (by rcases hk with rfl | rfl | rfl | rfl <;> decide +kernel) (by rcases hk with rfl | rfl | rfl | rfl <;> decide +kernel) (by rcases hk with rfl | rfl | rfl | rfl <;> decide +kernel)
    hat.1 hat.2 hz.1 hz.2 hS (by rw [hTR.2.1]; exact hsz) htext hnb (by decide) (by have := hTR.2.2.2.2.1; omega) (by have := hTR.2.2.2.2.2; omega) (by omega) (by omega) (by omega) hTR.2.2.1 ?_ T hT X
  intro H1 q9 ce g1 g2 g3 g4 g5 g6
  exact kk φ lsA rest H1 locs (cells + 3) (slots + 310) q9 ce hE hn (hR.grow 3 310 g1 g2) (LocR_ext (M := M) Ext.rf (Nat.le_refl _) hL) g4 g5 g6 hl (by show cells + 3 + c0 = ncl M + 3; omega) (by show slots + 310 + s0 = nsl M + 310; omega)
theorem npe_ok (hx : p.tables.exec = Jvm.exec) (hTR : THR l R s meth c bs H0 nL) (hts : ∀ w ∈ lw_all, w.before args s = true) (hKK : KK D bs H0 s)
    {φ : Nat → Nat} {lsA : Array Slot} {rest : List Value} {H : Heap} {locs : List Loc} {cells slots : Nat} {M : ev_M} {ls : List Value} (hE : Ext M0 φ0 φ) (hn : nx M0 ≤ nx M) (hR : Rel D φ bs H0 M H) (hL : LocR φ M ls lsA nL) (hl : ∀ z ∈ locs, bs ≤ z.base) (hc : cells + c0 = ncl M) (hs : slots + s0 = nsl M) (hsum : (rest.map fun v => v.category).sum ≤ 1000)
    (hRc : ncl M + 1 ≤ R.cells + c0) (hRs : nsl M + 8 ≤ R.slots + s0) (kk : WX p l e R s m args below meth c Q D bs H0 nL c0 s0 M0 φ0 ls (wX M 1 8) 1 pc) : vx_NoteN p l e R s m args below meth c H locs cells slots Q (F0 m pc lsA rest) := by
  intro T hT X
  have hfr := vx_frame X.same
  have hS : va_S (bs ≤ ·) s.heap H locs := ⟨by rw [← hT]; exact hfr.1, fun q _ h => by rw [hR.2.2.2.2.1.2 q (Nat.lt_of_not_le h), hTR.2.2.2.1 q (Nat.lt_of_not_le h)], hl⟩
  have hat := ew_use hts hKK.2.1 ew_1 ek_1
  have hz := kz_s hKK hTR.2.2.2.1
  have hsz : lsA.size = nL := by obtain ⟨-, l0, w, -⟩ := hL; exact w.1
  refine vx_npe (nb := 8) hx hTR.1 hat.1 hat.2 hz.1 hz.2 hS (by rw [hTR.2.1]; exact hsz) hTR.2.2.2.2.1 (by have := hTR.2.2.2.2.2; omega) (by omega) (by omega) hTR.2.2.1 ?_ T hT X
  intro H1 q9 ce g1 g2 g3 g4 g5 g6
  exact kk φ lsA rest H1 locs (cells + 1) (slots + 8) q9 ce hE hn (hR.grow 1 8 g1 g2) (LocR_ext (M := M) Ext.rf (Nat.le_refl _) hL) g4 g5 g6 hl (by show cells + 1 + c0 = ncl M + 1; omega) (by show slots + 8 + s0 = nsl M + 8; omega)
end
