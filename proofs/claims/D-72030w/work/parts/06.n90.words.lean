theorem q133 : (Jvm.Cond.initialized "StrideTurnsLaw") ∈ lw_all := lw_g (lw_at lw_m1 0 rfl) rfl
set_option maxRecDepth 100000
theorem q187 : (Jvm.Cond.classLink "StrideTurnsLaw" (7 : Nat) "StrideTurns") ∈ lw_all := lw_g (lw_at lw_m1 54 rfl) rfl
theorem q189 : (Jvm.Cond.methodLink "StrideTurnsLaw" (9 : Nat) ({ cls := "StrideTurns", name := "<init>", desc := "()V" } : Jvm.MethodName)) ∈ lw_all := lw_g (lw_at lw_m1 56 rfl) rfl
theorem q1186 : (Jvm.Cond.methodLink "StrideTurnsLaw" (13 : Nat) ({ cls := "StrideTurns", name := "row", desc := "(III)I" } : Jvm.MethodName)) ∈ lw_all := lw_g (lw_at lw_m5 93 rfl) rfl
theorem q1250 : (Jvm.Cond.methodLink "StrideTurnsLaw" (18 : Nat) ({ cls := "StrideTurns", name := "lose", desc := "(I)I" } : Jvm.MethodName)) ∈ lw_all := lw_g (lw_at lw_m5 157 rfl) rfl
theorem q1279 : (Jvm.Cond.methodLink "StrideTurnsLaw" (23 : Nat) ({ cls := "StrideTurns", name := "put", desc := "(IIII)I" } : Jvm.MethodName)) ∈ lw_all := lw_g (lw_at lw_m5 186 rfl) rfl
theorem q1327 : (Jvm.Cond.methodLink "StrideTurnsLaw" (28 : Nat) ({ cls := "StrideTurns", name := "get", desc := "(II)J" } : Jvm.MethodName)) ∈ lw_all := lw_g (lw_at lw_m5 234 rfl) rfl
theorem q1359 : (Jvm.Cond.methodLink "StrideTurnsLaw" (33 : Nat) ({ cls := "StrideTurns", name := "copy", desc := "(IIIII)I" } : Jvm.MethodName)) ∈ lw_all := lw_g (lw_at lw_m6 26 rfl) rfl
theorem q1381 : (Jvm.Cond.methodLink "StrideTurnsLaw" (38 : Nat) ({ cls := "StrideTurns", name := "turns", desc := "(I)I" } : Jvm.MethodName)) ∈ lw_all := lw_g (lw_at lw_m6 48 rfl) rfl
theorem q1449 : (Jvm.Cond.methodLink "StrideTurnsLaw" (42 : Nat) ({ cls := "StrideTurns", name := "type", desc := "(I)I" } : Jvm.MethodName)) ∈ lw_all := lw_g (lw_at lw_m6 116 rfl) rfl
theorem q1454 : (Jvm.Cond.methodLink "StrideTurnsLaw" (46 : Nat) ({ cls := "StrideTurns", name := "wipe", desc := "()I" } : Jvm.MethodName)) ∈ lw_all := lw_g (lw_at lw_m6 121 rfl) rfl
theorem q1458 : (Jvm.Cond.methodLink "StrideTurnsLaw" (51 : Nat) ({ cls := "StrideTurns", name := "statement", desc := "(I)I" } : Jvm.MethodName)) ∈ lw_all := lw_g (lw_at lw_m6 125 rfl) rfl
theorem q1763 : (Jvm.Cond.methodLink "StrideTurnsLaw" (55 : Nat) ({ cls := "StrideTurns", name := "refer", desc := "(III)I" } : Jvm.MethodName)) ∈ lw_all := lw_g (lw_at lw_m7 190 rfl) rfl
theorem q1790 : (Jvm.Cond.methodLink "StrideTurnsLaw" (59 : Nat) ({ cls := "StrideTurns", name := "place", desc := "(IIIII)I" } : Jvm.MethodName)) ∈ lw_all := lw_g (lw_at lw_m7 217 rfl) rfl
theorem q1806 : (Jvm.Cond.methodLink "StrideTurnsLaw" (63 : Nat) ({ cls := "StrideTurns", name := "guard", desc := "(III)I" } : Jvm.MethodName)) ∈ lw_all := lw_g (lw_at lw_m7 233 rfl) rfl
theorem q1818 : (Jvm.Cond.methodLink "StrideTurnsLaw" (67 : Nat) ({ cls := "StrideTurns", name := "mask", desc := "(II)I" } : Jvm.MethodName)) ∈ lw_all := lw_g (lw_at lw_m8 5 rfl) rfl
theorem q1825 : (Jvm.Cond.methodLink "StrideTurnsLaw" (72 : Nat) ({ cls := "StrideTurns", name := "undo", desc := "()I" } : Jvm.MethodName)) ∈ lw_all := lw_g (lw_at lw_m8 12 rfl) rfl
theorem q1840 : (Jvm.Cond.methodLink "StrideTurnsLaw" (76 : Nat) ({ cls := "StrideTurns", name := "info", desc := "(II)I" } : Jvm.MethodName)) ∈ lw_all := lw_g (lw_at lw_m8 27 rfl) rfl
theorem q1893 : (Jvm.Cond.methodLink "StrideTurnsLaw" (80 : Nat) ({ cls := "StrideTurns", name := "reference", desc := "(III)I" } : Jvm.MethodName)) ∈ lw_all := lw_g (lw_at lw_m8 80 rfl) rfl
theorem q1903 : (Jvm.Cond.methodLink "StrideTurnsLaw" (84 : Nat) ({ cls := "StrideTurns", name := "section", desc := "(III)I" } : Jvm.MethodName)) ∈ lw_all := lw_g (lw_at lw_m8 90 rfl) rfl
theorem q1956 : (Jvm.Cond.methodLink "StrideTurnsLaw" (88 : Nat) ({ cls := "StrideTurns", name := "meet", desc := "(IIIII)I" } : Jvm.MethodName)) ∈ lw_all := lw_g (lw_at lw_m8 143 rfl) rfl
theorem q1975 : (Jvm.Cond.methodLink "StrideTurnsLaw" (92 : Nat) ({ cls := "StrideTurns", name := "kinds", desc := "(II)I" } : Jvm.MethodName)) ∈ lw_all := lw_g (lw_at lw_m8 162 rfl) rfl
theorem q2043 : (Jvm.Cond.methodLink "StrideTurnsLaw" (96 : Nat) ({ cls := "StrideTurns", name := "kind", desc := "(IIII)I" } : Jvm.MethodName)) ∈ lw_all := lw_g (lw_at lw_m8 230 rfl) rfl
theorem q2213 : (Jvm.Cond.methodLink "StrideTurnsLaw" (100 : Nat) ({ cls := "StrideTurns", name := "many", desc := "(III)I" } : Jvm.MethodName)) ∈ lw_all := lw_g (lw_at lw_m9 160 rfl) rfl
theorem q2270 : (Jvm.Cond.methodLink "StrideTurnsLaw" (104 : Nat) ({ cls := "StrideTurns", name := "pieces", desc := "(III)I" } : Jvm.MethodName)) ∈ lw_all := lw_g (lw_at lw_m9 217 rfl) rfl
theorem q2286 : (Jvm.Cond.methodLink "StrideTurnsLaw" (108 : Nat) ({ cls := "StrideTurns", name := "piece", desc := "(IIIII)I" } : Jvm.MethodName)) ∈ lw_all := lw_g (lw_at lw_m9 233 rfl) rfl
theorem q2290 : (Jvm.Cond.methodLink "StrideTurnsLaw" (112 : Nat) ({ cls := "StrideTurns", name := "verdict", desc := "(I)I" } : Jvm.MethodName)) ∈ lw_all := lw_g (lw_at lw_m9 237 rfl) rfl
theorem q2320 : (Jvm.Cond.methodLink "StrideTurnsLaw" (116 : Nat) ({ cls := "StrideTurns", name := "would", desc := "(II)I" } : Jvm.MethodName)) ∈ lw_all := lw_g (lw_at lw_m10 27 rfl) rfl
theorem q2324 : (Jvm.Cond.methodLink "StrideTurnsLaw" (120 : Nat) ({ cls := "StrideTurns", name := "witness", desc := "(II)I" } : Jvm.MethodName)) ∈ lw_all := lw_g (lw_at lw_m10 31 rfl) rfl
theorem q2336 : (Jvm.Cond.methodLink "StrideTurnsLaw" (124 : Nat) ({ cls := "StrideTurns", name := "last", desc := "(III)I" } : Jvm.MethodName)) ∈ lw_all := lw_g (lw_at lw_m10 43 rfl) rfl
theorem q2341 : (Jvm.Cond.methodLink "StrideTurnsLaw" (128 : Nat) ({ cls := "StrideTurns", name := "run", desc := "()I" } : Jvm.MethodName)) ∈ lw_all := lw_g (lw_at lw_m10 48 rfl) rfl
theorem q2463 : (Jvm.Cond.methodLink "StrideTurnsLaw" (132 : Nat) ({ cls := "StrideTurns", name := "mixed", desc := "(IIII)I" } : Jvm.MethodName)) ∈ lw_all := lw_g (lw_at lw_m10 170 rfl) rfl
theorem q2519 : (Jvm.Cond.methodLink "StrideTurnsLaw" (136 : Nat) ({ cls := "StrideTurns", name := "same", desc := "(IIII)I" } : Jvm.MethodName)) ∈ lw_all := lw_g (lw_at lw_m10 226 rfl) rfl
theorem q2543 : (Jvm.Cond.methodLink "StrideTurnsLaw" (140 : Nat) ({ cls := "StrideTurns", name := "faults", desc := "(I)I" } : Jvm.MethodName)) ∈ lw_all := lw_g (lw_at lw_m11 10 rfl) rfl
theorem q2547 : (Jvm.Cond.methodLink "StrideTurnsLaw" (144 : Nat) ({ cls := "StrideTurns", name := "ended", desc := "(I)I" } : Jvm.MethodName)) ∈ lw_all := lw_g (lw_at lw_m11 14 rfl) rfl
theorem q2556 : (Jvm.Cond.methodLink "StrideTurnsLaw" (148 : Nat) ({ cls := "StrideTurns", name := "writer", desc := "(II)I" } : Jvm.MethodName)) ∈ lw_all := lw_g (lw_at lw_m11 23 rfl) rfl
theorem q2560 : (Jvm.Cond.methodLink "StrideTurnsLaw" (152 : Nat) ({ cls := "StrideTurns", name := "count", desc := "(I)I" } : Jvm.MethodName)) ∈ lw_all := lw_g (lw_at lw_m11 27 rfl) rfl
theorem q2572 : (Jvm.Cond.methodLink "StrideTurnsLaw" (156 : Nat) ({ cls := "StrideTurns", name := "digest", desc := "()J" } : Jvm.MethodName)) ∈ lw_all := lw_g (lw_at lw_m11 39 rfl) rfl
theorem q2591 : (Jvm.Cond.classLink "StrideTurnsLaw" (10 : Nat) "StrideTurnsModel") ∈ lw_all := lw_g (lw_at lw_m11 58 rfl) rfl
theorem q2593 : (Jvm.Cond.methodLink "StrideTurnsLaw" (12 : Nat) ({ cls := "StrideTurnsModel", name := "<init>", desc := "()V" } : Jvm.MethodName)) ∈ lw_all := lw_g (lw_at lw_m11 60 rfl) rfl
theorem q2739 : (Jvm.Cond.methodLink "StrideTurnsLaw" (17 : Nat) ({ cls := "StrideTurnsModel", name := "row", desc := "(III)I" } : Jvm.MethodName)) ∈ lw_all := lw_g (lw_at lw_m11 206 rfl) rfl
theorem q2753 : (Jvm.Cond.methodLink "StrideTurnsLaw" (22 : Nat) ({ cls := "StrideTurnsModel", name := "lose", desc := "(I)I" } : Jvm.MethodName)) ∈ lw_all := lw_g (lw_at lw_m11 220 rfl) rfl
theorem q2757 : (Jvm.Cond.methodLink "StrideTurnsLaw" (27 : Nat) ({ cls := "StrideTurnsModel", name := "put", desc := "(IIII)I" } : Jvm.MethodName)) ∈ lw_all := lw_g (lw_at lw_m11 224 rfl) rfl
theorem q2763 : (Jvm.Cond.methodLink "StrideTurnsLaw" (32 : Nat) ({ cls := "StrideTurnsModel", name := "get", desc := "(II)J" } : Jvm.MethodName)) ∈ lw_all := lw_g (lw_at lw_m11 230 rfl) rfl
theorem q2784 : (Jvm.Cond.methodLink "StrideTurnsLaw" (37 : Nat) ({ cls := "StrideTurnsModel", name := "copy", desc := "(IIIII)I" } : Jvm.MethodName)) ∈ lw_all := lw_g (lw_at lw_m12 11 rfl) rfl
theorem q2788 : (Jvm.Cond.methodLink "StrideTurnsLaw" (41 : Nat) ({ cls := "StrideTurnsModel", name := "turns", desc := "(I)I" } : Jvm.MethodName)) ∈ lw_all := lw_g (lw_at lw_m12 15 rfl) rfl
theorem q2796 : (Jvm.Cond.methodLink "StrideTurnsLaw" (45 : Nat) ({ cls := "StrideTurnsModel", name := "type", desc := "(I)I" } : Jvm.MethodName)) ∈ lw_all := lw_g (lw_at lw_m12 23 rfl) rfl
theorem q2800 : (Jvm.Cond.methodLink "StrideTurnsLaw" (50 : Nat) ({ cls := "StrideTurnsModel", name := "wipe", desc := "()I" } : Jvm.MethodName)) ∈ lw_all := lw_g (lw_at lw_m12 27 rfl) rfl
theorem q2804 : (Jvm.Cond.methodLink "StrideTurnsLaw" (54 : Nat) ({ cls := "StrideTurnsModel", name := "statement", desc := "(I)I" } : Jvm.MethodName)) ∈ lw_all := lw_g (lw_at lw_m12 31 rfl) rfl
theorem q2816 : (Jvm.Cond.methodLink "StrideTurnsLaw" (58 : Nat) ({ cls := "StrideTurnsModel", name := "refer", desc := "(III)I" } : Jvm.MethodName)) ∈ lw_all := lw_g (lw_at lw_m12 43 rfl) rfl
theorem q2824 : (Jvm.Cond.methodLink "StrideTurnsLaw" (62 : Nat) ({ cls := "StrideTurnsModel", name := "place", desc := "(IIIII)I" } : Jvm.MethodName)) ∈ lw_all := lw_g (lw_at lw_m12 51 rfl) rfl
theorem q2828 : (Jvm.Cond.methodLink "StrideTurnsLaw" (66 : Nat) ({ cls := "StrideTurnsModel", name := "guard", desc := "(III)I" } : Jvm.MethodName)) ∈ lw_all := lw_g (lw_at lw_m12 55 rfl) rfl
theorem q2832 : (Jvm.Cond.methodLink "StrideTurnsLaw" (71 : Nat) ({ cls := "StrideTurnsModel", name := "mask", desc := "(II)I" } : Jvm.MethodName)) ∈ lw_all := lw_g (lw_at lw_m12 59 rfl) rfl
theorem q2836 : (Jvm.Cond.methodLink "StrideTurnsLaw" (75 : Nat) ({ cls := "StrideTurnsModel", name := "undo", desc := "()I" } : Jvm.MethodName)) ∈ lw_all := lw_g (lw_at lw_m12 63 rfl) rfl
theorem q2840 : (Jvm.Cond.methodLink "StrideTurnsLaw" (79 : Nat) ({ cls := "StrideTurnsModel", name := "info", desc := "(II)I" } : Jvm.MethodName)) ∈ lw_all := lw_g (lw_at lw_m12 67 rfl) rfl
theorem q2867 : (Jvm.Cond.methodLink "StrideTurnsLaw" (83 : Nat) ({ cls := "StrideTurnsModel", name := "reference", desc := "(III)I" } : Jvm.MethodName)) ∈ lw_all := lw_g (lw_at lw_m12 94 rfl) rfl
theorem q2875 : (Jvm.Cond.methodLink "StrideTurnsLaw" (87 : Nat) ({ cls := "StrideTurnsModel", name := "section", desc := "(III)I" } : Jvm.MethodName)) ∈ lw_all := lw_g (lw_at lw_m12 102 rfl) rfl
theorem q2903 : (Jvm.Cond.methodLink "StrideTurnsLaw" (91 : Nat) ({ cls := "StrideTurnsModel", name := "meet", desc := "(IIIII)I" } : Jvm.MethodName)) ∈ lw_all := lw_g (lw_at lw_m12 130 rfl) rfl
theorem q2915 : (Jvm.Cond.methodLink "StrideTurnsLaw" (95 : Nat) ({ cls := "StrideTurnsModel", name := "kinds", desc := "(II)I" } : Jvm.MethodName)) ∈ lw_all := lw_g (lw_at lw_m12 142 rfl) rfl
theorem q2935 : (Jvm.Cond.methodLink "StrideTurnsLaw" (99 : Nat) ({ cls := "StrideTurnsModel", name := "kind", desc := "(IIII)I" } : Jvm.MethodName)) ∈ lw_all := lw_g (lw_at lw_m12 162 rfl) rfl
theorem q2939 : (Jvm.Cond.methodLink "StrideTurnsLaw" (103 : Nat) ({ cls := "StrideTurnsModel", name := "many", desc := "(III)I" } : Jvm.MethodName)) ∈ lw_all := lw_g (lw_at lw_m12 166 rfl) rfl
theorem q2978 : (Jvm.Cond.methodLink "StrideTurnsLaw" (107 : Nat) ({ cls := "StrideTurnsModel", name := "pieces", desc := "(III)I" } : Jvm.MethodName)) ∈ lw_all := lw_g (lw_at lw_m12 205 rfl) rfl
theorem q2993 : (Jvm.Cond.methodLink "StrideTurnsLaw" (111 : Nat) ({ cls := "StrideTurnsModel", name := "piece", desc := "(IIIII)I" } : Jvm.MethodName)) ∈ lw_all := lw_g (lw_at lw_m12 220 rfl) rfl
theorem q3001 : (Jvm.Cond.methodLink "StrideTurnsLaw" (115 : Nat) ({ cls := "StrideTurnsModel", name := "verdict", desc := "(I)I" } : Jvm.MethodName)) ∈ lw_all := lw_g (lw_at lw_m12 228 rfl) rfl
theorem q3033 : (Jvm.Cond.methodLink "StrideTurnsLaw" (119 : Nat) ({ cls := "StrideTurnsModel", name := "would", desc := "(II)I" } : Jvm.MethodName)) ∈ lw_all := lw_g (lw_at lw_m13 20 rfl) rfl
theorem q3037 : (Jvm.Cond.methodLink "StrideTurnsLaw" (123 : Nat) ({ cls := "StrideTurnsModel", name := "witness", desc := "(II)I" } : Jvm.MethodName)) ∈ lw_all := lw_g (lw_at lw_m13 24 rfl) rfl
theorem q3045 : (Jvm.Cond.methodLink "StrideTurnsLaw" (127 : Nat) ({ cls := "StrideTurnsModel", name := "last", desc := "(III)I" } : Jvm.MethodName)) ∈ lw_all := lw_g (lw_at lw_m13 32 rfl) rfl
theorem q3053 : (Jvm.Cond.methodLink "StrideTurnsLaw" (131 : Nat) ({ cls := "StrideTurnsModel", name := "run", desc := "()I" } : Jvm.MethodName)) ∈ lw_all := lw_g (lw_at lw_m13 40 rfl) rfl
theorem q3126 : (Jvm.Cond.methodLink "StrideTurnsLaw" (135 : Nat) ({ cls := "StrideTurnsModel", name := "mixed", desc := "(IIII)I" } : Jvm.MethodName)) ∈ lw_all := lw_g (lw_at lw_m13 113 rfl) rfl
theorem q3154 : (Jvm.Cond.methodLink "StrideTurnsLaw" (139 : Nat) ({ cls := "StrideTurnsModel", name := "same", desc := "(IIII)I" } : Jvm.MethodName)) ∈ lw_all := lw_g (lw_at lw_m13 141 rfl) rfl
theorem q3162 : (Jvm.Cond.methodLink "StrideTurnsLaw" (143 : Nat) ({ cls := "StrideTurnsModel", name := "faults", desc := "(I)I" } : Jvm.MethodName)) ∈ lw_all := lw_g (lw_at lw_m13 149 rfl) rfl
theorem q3166 : (Jvm.Cond.methodLink "StrideTurnsLaw" (147 : Nat) ({ cls := "StrideTurnsModel", name := "ended", desc := "(I)I" } : Jvm.MethodName)) ∈ lw_all := lw_g (lw_at lw_m13 153 rfl) rfl
theorem q3170 : (Jvm.Cond.methodLink "StrideTurnsLaw" (151 : Nat) ({ cls := "StrideTurnsModel", name := "writer", desc := "(II)I" } : Jvm.MethodName)) ∈ lw_all := lw_g (lw_at lw_m13 157 rfl) rfl
theorem q3174 : (Jvm.Cond.methodLink "StrideTurnsLaw" (155 : Nat) ({ cls := "StrideTurnsModel", name := "count", desc := "(I)I" } : Jvm.MethodName)) ∈ lw_all := lw_g (lw_at lw_m13 161 rfl) rfl
theorem q3182 : (Jvm.Cond.methodLink "StrideTurnsLaw" (160 : Nat) ({ cls := "StrideTurnsModel", name := "digest", desc := "()J" } : Jvm.MethodName)) ∈ lw_all := lw_g (lw_at lw_m13 169 rfl) rfl

theorem q1838 : (Jvm.Cond.interfaceMethod "StrideTurns$Act" "StrideTurns$Act" "back" "()I") ∈ lw_tbl := lw_at lw_m8 25 rfl
set_option maxRecDepth 100000
theorem q1839 : (Jvm.Cond.declares ({ cls := "StrideTurns$Act", name := "back", desc := "()I" } : Jvm.MethodName)) ∈ lw_tbl := lw_at lw_m8 26 rfl

theorem q2500 : (Jvm.Cond.interfaceMethod "StrideTurns$Deal" "StrideTurns$Deal" "worker" "(I)I") ∈ lw_tbl := lw_at lw_m10 207 rfl
set_option maxRecDepth 100000
theorem q2501 : (Jvm.Cond.declares ({ cls := "StrideTurns$Deal", name := "worker", desc := "(I)I" } : Jvm.MethodName)) ∈ lw_tbl := lw_at lw_m10 208 rfl

theorem q2438 : (Jvm.Cond.interfaceMethod "StrideTurns$Doubles" "StrideTurns$Doubles" "on" "(DD)D") ∈ lw_tbl := lw_at lw_m10 145 rfl
set_option maxRecDepth 100000
theorem q2439 : (Jvm.Cond.declares ({ cls := "StrideTurns$Doubles", name := "on", desc := "(DD)D" } : Jvm.MethodName)) ∈ lw_tbl := lw_at lw_m10 146 rfl

theorem q2434 : (Jvm.Cond.interfaceMethod "StrideTurns$Floats" "StrideTurns$Floats" "on" "(FF)F") ∈ lw_tbl := lw_at lw_m10 141 rfl
set_option maxRecDepth 100000
theorem q2435 : (Jvm.Cond.declares ({ cls := "StrideTurns$Floats", name := "on", desc := "(FF)F" } : Jvm.MethodName)) ∈ lw_tbl := lw_at lw_m10 142 rfl

theorem q2430 : (Jvm.Cond.interfaceMethod "StrideTurns$Ints" "StrideTurns$Ints" "on" "(II)I") ∈ lw_tbl := lw_at lw_m10 137 rfl
set_option maxRecDepth 100000
theorem q2431 : (Jvm.Cond.declares ({ cls := "StrideTurns$Ints", name := "on", desc := "(II)I" } : Jvm.MethodName)) ∈ lw_tbl := lw_at lw_m10 138 rfl

theorem q1882 : (Jvm.Cond.interfaceMethod "StrideTurns$When" "StrideTurns$When" "is" "(I)Z") ∈ lw_tbl := lw_at lw_m8 69 rfl
set_option maxRecDepth 100000
theorem q1883 : (Jvm.Cond.declares ({ cls := "StrideTurns$When", name := "is", desc := "(I)Z" } : Jvm.MethodName)) ∈ lw_tbl := lw_at lw_m8 70 rfl

theorem q1928 : (Jvm.Cond.interfaceMethod "StrideTurns$Where" "StrideTurns$Where" "at" "(II)I") ∈ lw_tbl := lw_at lw_m8 115 rfl
set_option maxRecDepth 100000
theorem q1929 : (Jvm.Cond.declares ({ cls := "StrideTurns$Where", name := "at", desc := "(II)I" } : Jvm.MethodName)) ∈ lw_tbl := lw_at lw_m8 116 rfl

theorem q1529 : (Jvm.Cond.sameMethod "[B" "java/lang/Object" "clone" "()Ljava/lang/Object;") ∈ lw_all := lw_g (lw_at lw_m6 196 rfl) rfl
set_option maxRecDepth 100000
theorem q1532 : (Jvm.Cond.selects "[B" ({ cls := "[B", name := "clone", desc := "()Ljava/lang/Object;" } : Jvm.MethodName) ({ cls := "java/lang/Object", name := "clone", desc := "()Ljava/lang/Object;" } : Jvm.MethodName)) ∈ lw_all := lw_g (lw_at lw_m6 199 rfl) rfl
theorem q1533 : (Jvm.Cond.castable "[B" "java/lang/Cloneable") ∈ lw_tbl := lw_at lw_m6 200 rfl
theorem q3256 : (Jvm.Cond.castable "[B" "java/lang/Object") ∈ lw_tbl := lw_at lw_m14 3 rfl

theorem q3263 : (Jvm.Cond.castable "[D" "java/lang/Object") ∈ lw_tbl := lw_at lw_m14 10 rfl
set_option maxRecDepth 100000

theorem q3266 : (Jvm.Cond.castable "[F" "java/lang/Object") ∈ lw_tbl := lw_at lw_m14 13 rfl
set_option maxRecDepth 100000

theorem q3262 : (Jvm.Cond.castable "[I" "java/lang/Object") ∈ lw_tbl := lw_at lw_m14 9 rfl
set_option maxRecDepth 100000

theorem q3261 : (Jvm.Cond.castable "[J" "java/lang/Object") ∈ lw_tbl := lw_at lw_m14 8 rfl
set_option maxRecDepth 100000

theorem q3267 : (Jvm.Cond.castable "[LStrideTurns$Reference;" "java/lang/Object") ∈ lw_tbl := lw_at lw_m14 14 rfl
set_option maxRecDepth 100000

theorem q3258 : (Jvm.Cond.castable "[LStrideTurns$Row;" "java/lang/Object") ∈ lw_tbl := lw_at lw_m14 5 rfl
set_option maxRecDepth 100000

theorem q3260 : (Jvm.Cond.castable "[LStrideTurns$Turn;" "java/lang/Object") ∈ lw_tbl := lw_at lw_m14 7 rfl
set_option maxRecDepth 100000

theorem q3253 : (Jvm.Cond.sameMethod "[Ljava/lang/Object;" "java/lang/Object" "getClass" "()Ljava/lang/Class;") ∈ lw_all := lw_g (lw_at lw_m14 0 rfl) rfl
set_option maxRecDepth 100000
theorem q3254 : (Jvm.Cond.selects "[Ljava/lang/Object;" ({ cls := "java/lang/Object", name := "getClass", desc := "()Ljava/lang/Class;" } : Jvm.MethodName) ({ cls := "java/lang/Object", name := "getClass", desc := "()Ljava/lang/Class;" } : Jvm.MethodName)) ∈ lw_all := lw_g (lw_at lw_m14 1 rfl) rfl
theorem q3259 : (Jvm.Cond.castable "[Ljava/lang/Object;" "java/lang/Object") ∈ lw_tbl := lw_at lw_m14 6 rfl

theorem q3257 : (Jvm.Cond.castable "[Ljava/util/HashMap$Node;" "java/lang/Object") ∈ lw_tbl := lw_at lw_m14 4 rfl
set_option maxRecDepth 100000

theorem q3265 : (Jvm.Cond.castable "[S" "java/lang/Object") ∈ lw_tbl := lw_at lw_m14 12 rfl
set_option maxRecDepth 100000

theorem q3264 : (Jvm.Cond.castable "[Z" "java/lang/Object") ∈ lw_tbl := lw_at lw_m14 11 rfl
set_option maxRecDepth 100000

theorem q525 : (Jvm.Cond.interfaceMethod "java/lang/Comparable" "java/lang/Comparable" "compareTo" "(Ljava/lang/Object;)I") ∈ lw_tbl := lw_at lw_m2 152 rfl
set_option maxRecDepth 100000
theorem q526 : (Jvm.Cond.declares ({ cls := "java/lang/Comparable", name := "compareTo", desc := "(Ljava/lang/Object;)I" } : Jvm.MethodName)) ∈ lw_tbl := lw_at lw_m2 153 rfl

theorem q147 : (Jvm.Cond.initialized "java/lang/Number") ∈ lw_all := lw_g (lw_at lw_m1 14 rfl) rfl
set_option maxRecDepth 100000

theorem q171 : (Jvm.Cond.initialized "java/lang/System") ∈ lw_all := lw_g (lw_at lw_m1 38 rfl) rfl
set_option maxRecDepth 100000
theorem q1379 : (Jvm.Cond.static ({ cls := "java/lang/System", name := "arraycopy", desc := "(Ljava/lang/Object;ILjava/lang/Object;II)V" } : Jvm.MethodName)) ∈ lw_all := lw_g (lw_at lw_m6 46 rfl) rfl
theorem q1380 : (Jvm.Cond.native ({ cls := "java/lang/System", name := "arraycopy", desc := "(Ljava/lang/Object;ILjava/lang/Object;II)V" } : Jvm.MethodName)) ∈ lw_all := lw_g (lw_at lw_m6 47 rfl) rfl

theorem q2074 : (Jvm.Cond.interfaceMethod "java/util/Collection" "java/util/Collection" "iterator" "()Ljava/util/Iterator;") ∈ lw_tbl := lw_at lw_m9 21 rfl
set_option maxRecDepth 100000
theorem q2075 : (Jvm.Cond.declares ({ cls := "java/util/Collection", name := "iterator", desc := "()Ljava/util/Iterator;" } : Jvm.MethodName)) ∈ lw_tbl := lw_at lw_m9 22 rfl

theorem q2160 : (Jvm.Cond.interfaceMethod "java/util/Iterator" "java/util/Iterator" "hasNext" "()Z") ∈ lw_tbl := lw_at lw_m9 107 rfl
set_option maxRecDepth 100000
theorem q2161 : (Jvm.Cond.declares ({ cls := "java/util/Iterator", name := "hasNext", desc := "()Z" } : Jvm.MethodName)) ∈ lw_tbl := lw_at lw_m9 108 rfl
theorem q2182 : (Jvm.Cond.interfaceMethod "java/util/Iterator" "java/util/Iterator" "next" "()Ljava/lang/Object;") ∈ lw_tbl := lw_at lw_m9 129 rfl
theorem q2183 : (Jvm.Cond.declares ({ cls := "java/util/Iterator", name := "next", desc := "()Ljava/lang/Object;" } : Jvm.MethodName)) ∈ lw_tbl := lw_at lw_m9 130 rfl

theorem q335 : (Jvm.Cond.interfaceMethod "jdk/internal/access/JavaLangAccess" "jdk/internal/access/JavaLangAccess" "getUTF16Char" "([BI)C") ∈ lw_tbl := lw_at lw_m1 202 rfl
set_option maxRecDepth 100000
theorem q336 : (Jvm.Cond.declares ({ cls := "jdk/internal/access/JavaLangAccess", name := "getUTF16Char", desc := "([BI)C" } : Jvm.MethodName)) ∈ lw_tbl := lw_at lw_m1 203 rfl

theorem q146 : (Jvm.Cond.initialized "jdk/internal/misc/UnsafeConstants") ∈ lw_all := lw_g (lw_at lw_m1 13 rfl) rfl
set_option maxRecDepth 100000
theorem q591 : (Jvm.Cond.laysStatic "jdk/internal/misc/UnsafeConstants" "BIG_ENDIAN" "Z") ∈ lw_tbl := lw_at lw_m2 218 rfl

theorem q274 : (Jvm.Cond.arrayClass Jvm.ClassFile.FieldType.byte) ∈ lw_all := lw_g (lw_at lw_m1 141 rfl) rfl
set_option maxRecDepth 100000
theorem q395 : (Jvm.Cond.arrayOver (Jvm.ClassFile.FieldType.object "java/util/HashMap$Node")) ∈ lw_tbl := lw_at lw_m2 22 rfl
theorem q1023 : (Jvm.Cond.arrayOver (Jvm.ClassFile.FieldType.object "StrideTurns$Row")) ∈ lw_tbl := lw_at lw_m4 170 rfl
theorem q1037 : (Jvm.Cond.arrayOver (Jvm.ClassFile.FieldType.object "java/lang/Object")) ∈ lw_tbl := lw_at lw_m4 184 rfl
theorem q1075 : (Jvm.Cond.arrayOver (Jvm.ClassFile.FieldType.object "StrideTurns$Turn")) ∈ lw_tbl := lw_at lw_m4 222 rfl
theorem q1106 : (Jvm.Cond.arrayClass Jvm.ClassFile.FieldType.long) ∈ lw_all := lw_g (lw_at lw_m5 13 rfl) rfl
theorem q1107 : (Jvm.Cond.arrayClass Jvm.ClassFile.FieldType.int) ∈ lw_all := lw_g (lw_at lw_m5 14 rfl) rfl
theorem q1108 : (Jvm.Cond.arrayClass Jvm.ClassFile.FieldType.double) ∈ lw_all := lw_g (lw_at lw_m5 15 rfl) rfl
theorem q1109 : (Jvm.Cond.arrayClass Jvm.ClassFile.FieldType.boolean) ∈ lw_all := lw_g (lw_at lw_m5 16 rfl) rfl
theorem q1244 : (Jvm.Cond.arrayClass Jvm.ClassFile.FieldType.short) ∈ lw_all := lw_g (lw_at lw_m5 151 rfl) rfl
theorem q1245 : (Jvm.Cond.arrayClass Jvm.ClassFile.FieldType.float) ∈ lw_all := lw_g (lw_at lw_m5 152 rfl) rfl
theorem q1658 : (Jvm.Cond.arrayOver (Jvm.ClassFile.FieldType.object "StrideTurns$Reference")) ∈ lw_tbl := lw_at lw_m7 85 rfl
theorem q3268 : (Jvm.Cond.arrayClass Jvm.ClassFile.FieldType.char) ∈ lw_all := lw_g (lw_at lw_m14 15 rfl) rfl

