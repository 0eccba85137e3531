theorem q77 : (Jvm.Cond.initialized "CardLoomLaw") ∈ lw_all := lw_g (lw_at lw_m1 0 rfl) rfl
set_option maxRecDepth 100000
theorem q136 : (Jvm.Cond.classLink "CardLoomLaw" (7 : Nat) "CardLoom") ∈ lw_all := lw_g (lw_at lw_m1 59 rfl) rfl
theorem q138 : (Jvm.Cond.methodLink "CardLoomLaw" (9 : Nat) ({ cls := "CardLoom", name := "<init>", desc := "()V" } : Jvm.MethodName)) ∈ lw_all := lw_g (lw_at lw_m1 61 rfl) rfl
theorem q245 : (Jvm.Cond.methodLink "CardLoomLaw" (13 : Nat) ({ cls := "CardLoom", name := "feed", desc := "(I)I" } : Jvm.MethodName)) ∈ lw_all := lw_g (lw_at lw_m1 168 rfl) rfl
theorem q252 : (Jvm.Cond.methodLink "CardLoomLaw" (18 : Nat) ({ cls := "CardLoom", name := "clear", desc := "()I" } : Jvm.MethodName)) ∈ lw_all := lw_g (lw_at lw_m1 175 rfl) rfl
theorem q256 : (Jvm.Cond.methodLink "CardLoomLaw" (23 : Nat) ({ cls := "CardLoom", name := "thread", desc := "()I" } : Jvm.MethodName)) ∈ lw_all := lw_g (lw_at lw_m1 179 rfl) rfl
theorem q488 : (Jvm.Cond.methodLink "CardLoomLaw" (27 : Nat) ({ cls := "CardLoom", name := "law", desc := "()I" } : Jvm.MethodName)) ∈ lw_all := lw_g (lw_at lw_m2 171 rfl) rfl
theorem q678 : (Jvm.Cond.methodLink "CardLoomLaw" (31 : Nat) ({ cls := "CardLoom", name := "card", desc := "(II)I" } : Jvm.MethodName)) ∈ lw_all := lw_g (lw_at lw_m3 121 rfl) rfl
theorem q813 : (Jvm.Cond.methodLink "CardLoomLaw" (36 : Nat) ({ cls := "CardLoom", name := "slant", desc := "(I)I" } : Jvm.MethodName)) ∈ lw_all := lw_g (lw_at lw_m4 16 rfl) rfl
theorem q817 : (Jvm.Cond.methodLink "CardLoomLaw" (40 : Nat) ({ cls := "CardLoom", name := "place", desc := "(II)I" } : Jvm.MethodName)) ∈ lw_all := lw_g (lw_at lw_m4 20 rfl) rfl
theorem q821 : (Jvm.Cond.methodLink "CardLoomLaw" (44 : Nat) ({ cls := "CardLoom", name := "recolour", desc := "(III)I" } : Jvm.MethodName)) ∈ lw_all := lw_g (lw_at lw_m4 24 rfl) rfl
theorem q828 : (Jvm.Cond.methodLink "CardLoomLaw" (49 : Nat) ({ cls := "CardLoom", name := "turn", desc := "(II)I" } : Jvm.MethodName)) ∈ lw_all := lw_g (lw_at lw_m4 31 rfl) rfl
theorem q995 : (Jvm.Cond.methodLink "CardLoomLaw" (53 : Nat) ({ cls := "CardLoom", name := "pack", desc := "(II)I" } : Jvm.MethodName)) ∈ lw_all := lw_g (lw_at lw_m4 198 rfl) rfl
theorem q999 : (Jvm.Cond.methodLink "CardLoomLaw" (57 : Nat) ({ cls := "CardLoom", name := "weave", desc := "(I)I" } : Jvm.MethodName)) ∈ lw_all := lw_g (lw_at lw_m4 202 rfl) rfl
theorem q1007 : (Jvm.Cond.methodLink "CardLoomLaw" (61 : Nat) ({ cls := "CardLoom", name := "unweave", desc := "(I)I" } : Jvm.MethodName)) ∈ lw_all := lw_g (lw_at lw_m4 210 rfl) rfl
theorem q1028 : (Jvm.Cond.methodLink "CardLoomLaw" (65 : Nat) ({ cls := "CardLoom", name := "front", desc := "(II)I" } : Jvm.MethodName)) ∈ lw_all := lw_g (lw_at lw_m4 231 rfl) rfl
theorem q1040 : (Jvm.Cond.methodLink "CardLoomLaw" (69 : Nat) ({ cls := "CardLoom", name := "back", desc := "(II)I" } : Jvm.MethodName)) ∈ lw_all := lw_g (lw_at lw_m5 3 rfl) rfl
theorem q1044 : (Jvm.Cond.methodLink "CardLoomLaw" (73 : Nat) ({ cls := "CardLoom", name := "lean", desc := "(II)I" } : Jvm.MethodName)) ∈ lw_all := lw_g (lw_at lw_m5 7 rfl) rfl
theorem q1048 : (Jvm.Cond.methodLink "CardLoomLaw" (77 : Nat) ({ cls := "CardLoom", name := "turning", desc := "(II)I" } : Jvm.MethodName)) ∈ lw_all := lw_g (lw_at lw_m5 11 rfl) rfl
theorem q1052 : (Jvm.Cond.methodLink "CardLoomLaw" (81 : Nat) ({ cls := "CardLoom", name := "returns", desc := "()I" } : Jvm.MethodName)) ∈ lw_all := lw_g (lw_at lw_m5 15 rfl) rfl
theorem q1081 : (Jvm.Cond.methodLink "CardLoomLaw" (85 : Nat) ({ cls := "CardLoom", name := "flat", desc := "()I" } : Jvm.MethodName)) ∈ lw_all := lw_g (lw_at lw_m5 44 rfl) rfl
theorem q1087 : (Jvm.Cond.methodLink "CardLoomLaw" (89 : Nat) ({ cls := "CardLoom", name := "jam", desc := "()I" } : Jvm.MethodName)) ∈ lw_all := lw_g (lw_at lw_m5 50 rfl) rfl
theorem q1091 : (Jvm.Cond.methodLink "CardLoomLaw" (93 : Nat) ({ cls := "CardLoom", name := "undoing", desc := "(II)I" } : Jvm.MethodName)) ∈ lw_all := lw_g (lw_at lw_m5 54 rfl) rfl
theorem q1497 : (Jvm.Cond.methodLink "CardLoomLaw" (97 : Nat) ({ cls := "CardLoom", name := "paint", desc := "(III)I" } : Jvm.MethodName)) ∈ lw_all := lw_g (lw_at lw_m6 220 rfl) rfl
theorem q1501 : (Jvm.Cond.methodLink "CardLoomLaw" (101 : Nat) ({ cls := "CardLoom", name := "lines", desc := "(I)I" } : Jvm.MethodName)) ∈ lw_all := lw_g (lw_at lw_m6 224 rfl) rfl
theorem q1505 : (Jvm.Cond.methodLink "CardLoomLaw" (105 : Nat) ({ cls := "CardLoom", name := "draft", desc := "(II)I" } : Jvm.MethodName)) ∈ lw_all := lw_g (lw_at lw_m6 228 rfl) rfl
theorem q1570 : (Jvm.Cond.methodLink "CardLoomLaw" (109 : Nat) ({ cls := "CardLoom", name := "fewest", desc := "(I)I" } : Jvm.MethodName)) ∈ lw_all := lw_g (lw_at lw_m7 53 rfl) rfl
theorem q1578 : (Jvm.Cond.methodLink "CardLoomLaw" (113 : Nat) ({ cls := "CardLoom", name := "weaveDraft", desc := "()I" } : Jvm.MethodName)) ∈ lw_all := lw_g (lw_at lw_m7 61 rfl) rfl
theorem q1588 : (Jvm.Cond.methodLink "CardLoomLaw" (117 : Nat) ({ cls := "CardLoom", name := "matches", desc := "(I)I" } : Jvm.MethodName)) ∈ lw_all := lw_g (lw_at lw_m7 71 rfl) rfl
theorem q1592 : (Jvm.Cond.methodLink "CardLoomLaw" (121 : Nat) ({ cls := "CardLoom", name := "period", desc := "()I" } : Jvm.MethodName)) ∈ lw_all := lw_g (lw_at lw_m7 75 rfl) rfl
theorem q1612 : (Jvm.Cond.methodLink "CardLoomLaw" (125 : Nat) ({ cls := "CardLoom", name := "mirrors", desc := "()I" } : Jvm.MethodName)) ∈ lw_all := lw_g (lw_at lw_m7 95 rfl) rfl
theorem q1620 : (Jvm.Cond.methodLink "CardLoomLaw" (129 : Nat) ({ cls := "CardLoom", name := "run", desc := "(I)I" } : Jvm.MethodName)) ∈ lw_all := lw_g (lw_at lw_m7 103 rfl) rfl
theorem q1628 : (Jvm.Cond.methodLink "CardLoomLaw" (133 : Nat) ({ cls := "CardLoom", name := "colours", desc := "(II)I" } : Jvm.MethodName)) ∈ lw_all := lw_g (lw_at lw_m7 111 rfl) rfl
theorem q1795 : (Jvm.Cond.methodLink "CardLoomLaw" (137 : Nat) ({ cls := "CardLoom", name := "ranked", desc := "(I)I" } : Jvm.MethodName)) ∈ lw_all := lw_g (lw_at lw_m8 38 rfl) rfl
theorem q1983 : (Jvm.Cond.methodLink "CardLoomLaw" (141 : Nat) ({ cls := "CardLoom", name := "alike", desc := "(II)I" } : Jvm.MethodName)) ∈ lw_all := lw_g (lw_at lw_m8 226 rfl) rfl
theorem q1988 : (Jvm.Cond.methodLink "CardLoomLaw" (145 : Nat) ({ cls := "CardLoom", name := "faces", desc := "(I)I" } : Jvm.MethodName)) ∈ lw_all := lw_g (lw_at lw_m8 231 rfl) rfl
theorem q1996 : (Jvm.Cond.methodLink "CardLoomLaw" (149 : Nat) ({ cls := "CardLoom", name := "spell", desc := "()I" } : Jvm.MethodName)) ∈ lw_all := lw_g (lw_at lw_m8 239 rfl) rfl
theorem q2199 : (Jvm.Cond.methodLink "CardLoomLaw" (153 : Nat) ({ cls := "CardLoom", name := "paper", desc := "(I)I" } : Jvm.MethodName)) ∈ lw_all := lw_g (lw_at lw_m9 202 rfl) rfl
theorem q2214 : (Jvm.Cond.methodLink "CardLoomLaw" (157 : Nat) ({ cls := "CardLoom", name := "told", desc := "(I)I" } : Jvm.MethodName)) ∈ lw_all := lw_g (lw_at lw_m9 217 rfl) rfl
theorem q2229 : (Jvm.Cond.methodLink "CardLoomLaw" (161 : Nat) ({ cls := "CardLoom", name := "list", desc := "(II)I" } : Jvm.MethodName)) ∈ lw_all := lw_g (lw_at lw_m9 232 rfl) rfl
theorem q2248 : (Jvm.Cond.methodLink "CardLoomLaw" (165 : Nat) ({ cls := "CardLoom", name := "set", desc := "(III)I" } : Jvm.MethodName)) ∈ lw_all := lw_g (lw_at lw_m10 11 rfl) rfl
theorem q2273 : (Jvm.Cond.methodLink "CardLoomLaw" (169 : Nat) ({ cls := "CardLoom", name := "get", desc := "(II)I" } : Jvm.MethodName)) ∈ lw_all := lw_g (lw_at lw_m10 36 rfl) rfl
theorem q2278 : (Jvm.Cond.methodLink "CardLoomLaw" (173 : Nat) ({ cls := "CardLoom", name := "lay", desc := "(III)I" } : Jvm.MethodName)) ∈ lw_all := lw_g (lw_at lw_m10 41 rfl) rfl
theorem q2282 : (Jvm.Cond.methodLink "CardLoomLaw" (177 : Nat) ({ cls := "CardLoom", name := "judge", desc := "(III)I" } : Jvm.MethodName)) ∈ lw_all := lw_g (lw_at lw_m10 45 rfl) rfl
theorem q2286 : (Jvm.Cond.methodLink "CardLoomLaw" (181 : Nat) ({ cls := "CardLoom", name := "image", desc := "()I" } : Jvm.MethodName)) ∈ lw_all := lw_g (lw_at lw_m10 49 rfl) rfl
theorem q2293 : (Jvm.Cond.methodLink "CardLoomLaw" (185 : Nat) ({ cls := "CardLoom", name := "undo", desc := "()I" } : Jvm.MethodName)) ∈ lw_all := lw_g (lw_at lw_m10 56 rfl) rfl
theorem q2297 : (Jvm.Cond.classLink "CardLoomLaw" (10 : Nat) "CardLoomModel") ∈ lw_all := lw_g (lw_at lw_m10 60 rfl) rfl
theorem q2299 : (Jvm.Cond.methodLink "CardLoomLaw" (12 : Nat) ({ cls := "CardLoomModel", name := "<init>", desc := "()V" } : Jvm.MethodName)) ∈ lw_all := lw_g (lw_at lw_m10 62 rfl) rfl
theorem q2427 : (Jvm.Cond.methodLink "CardLoomLaw" (17 : Nat) ({ cls := "CardLoomModel", name := "feed", desc := "(I)I" } : Jvm.MethodName)) ∈ lw_all := lw_g (lw_at lw_m10 190 rfl) rfl
theorem q2434 : (Jvm.Cond.methodLink "CardLoomLaw" (22 : Nat) ({ cls := "CardLoomModel", name := "clear", desc := "()I" } : Jvm.MethodName)) ∈ lw_all := lw_g (lw_at lw_m10 197 rfl) rfl
theorem q2438 : (Jvm.Cond.methodLink "CardLoomLaw" (30 : Nat) ({ cls := "CardLoomModel", name := "law", desc := "()I" } : Jvm.MethodName)) ∈ lw_all := lw_g (lw_at lw_m10 201 rfl) rfl
theorem q2462 : (Jvm.Cond.methodLink "CardLoomLaw" (26 : Nat) ({ cls := "CardLoomModel", name := "thread", desc := "()I" } : Jvm.MethodName)) ∈ lw_all := lw_g (lw_at lw_m10 225 rfl) rfl
theorem q2470 : (Jvm.Cond.methodLink "CardLoomLaw" (35 : Nat) ({ cls := "CardLoomModel", name := "card", desc := "(II)I" } : Jvm.MethodName)) ∈ lw_all := lw_g (lw_at lw_m10 233 rfl) rfl
theorem q2487 : (Jvm.Cond.methodLink "CardLoomLaw" (39 : Nat) ({ cls := "CardLoomModel", name := "slant", desc := "(I)I" } : Jvm.MethodName)) ∈ lw_all := lw_g (lw_at lw_m11 10 rfl) rfl
theorem q2491 : (Jvm.Cond.methodLink "CardLoomLaw" (43 : Nat) ({ cls := "CardLoomModel", name := "place", desc := "(II)I" } : Jvm.MethodName)) ∈ lw_all := lw_g (lw_at lw_m11 14 rfl) rfl
theorem q2495 : (Jvm.Cond.methodLink "CardLoomLaw" (48 : Nat) ({ cls := "CardLoomModel", name := "recolour", desc := "(III)I" } : Jvm.MethodName)) ∈ lw_all := lw_g (lw_at lw_m11 18 rfl) rfl
theorem q2502 : (Jvm.Cond.methodLink "CardLoomLaw" (52 : Nat) ({ cls := "CardLoomModel", name := "turn", desc := "(II)I" } : Jvm.MethodName)) ∈ lw_all := lw_g (lw_at lw_m11 25 rfl) rfl
theorem q2528 : (Jvm.Cond.methodLink "CardLoomLaw" (56 : Nat) ({ cls := "CardLoomModel", name := "pack", desc := "(II)I" } : Jvm.MethodName)) ∈ lw_all := lw_g (lw_at lw_m11 51 rfl) rfl
theorem q2532 : (Jvm.Cond.methodLink "CardLoomLaw" (60 : Nat) ({ cls := "CardLoomModel", name := "weave", desc := "(I)I" } : Jvm.MethodName)) ∈ lw_all := lw_g (lw_at lw_m11 55 rfl) rfl
theorem q2540 : (Jvm.Cond.methodLink "CardLoomLaw" (64 : Nat) ({ cls := "CardLoomModel", name := "unweave", desc := "(I)I" } : Jvm.MethodName)) ∈ lw_all := lw_g (lw_at lw_m11 63 rfl) rfl
theorem q2544 : (Jvm.Cond.methodLink "CardLoomLaw" (68 : Nat) ({ cls := "CardLoomModel", name := "front", desc := "(II)I" } : Jvm.MethodName)) ∈ lw_all := lw_g (lw_at lw_m11 67 rfl) rfl
theorem q2556 : (Jvm.Cond.methodLink "CardLoomLaw" (72 : Nat) ({ cls := "CardLoomModel", name := "back", desc := "(II)I" } : Jvm.MethodName)) ∈ lw_all := lw_g (lw_at lw_m11 79 rfl) rfl
theorem q2560 : (Jvm.Cond.methodLink "CardLoomLaw" (76 : Nat) ({ cls := "CardLoomModel", name := "lean", desc := "(II)I" } : Jvm.MethodName)) ∈ lw_all := lw_g (lw_at lw_m11 83 rfl) rfl
theorem q2564 : (Jvm.Cond.methodLink "CardLoomLaw" (80 : Nat) ({ cls := "CardLoomModel", name := "turning", desc := "(II)I" } : Jvm.MethodName)) ∈ lw_all := lw_g (lw_at lw_m11 87 rfl) rfl
theorem q2568 : (Jvm.Cond.methodLink "CardLoomLaw" (84 : Nat) ({ cls := "CardLoomModel", name := "returns", desc := "()I" } : Jvm.MethodName)) ∈ lw_all := lw_g (lw_at lw_m11 91 rfl) rfl
theorem q2584 : (Jvm.Cond.methodLink "CardLoomLaw" (88 : Nat) ({ cls := "CardLoomModel", name := "flat", desc := "()I" } : Jvm.MethodName)) ∈ lw_all := lw_g (lw_at lw_m11 107 rfl) rfl
theorem q2592 : (Jvm.Cond.methodLink "CardLoomLaw" (92 : Nat) ({ cls := "CardLoomModel", name := "jam", desc := "()I" } : Jvm.MethodName)) ∈ lw_all := lw_g (lw_at lw_m11 115 rfl) rfl
theorem q2596 : (Jvm.Cond.methodLink "CardLoomLaw" (96 : Nat) ({ cls := "CardLoomModel", name := "undoing", desc := "(II)I" } : Jvm.MethodName)) ∈ lw_all := lw_g (lw_at lw_m11 119 rfl) rfl
theorem q2604 : (Jvm.Cond.methodLink "CardLoomLaw" (100 : Nat) ({ cls := "CardLoomModel", name := "paint", desc := "(III)I" } : Jvm.MethodName)) ∈ lw_all := lw_g (lw_at lw_m11 127 rfl) rfl
theorem q2608 : (Jvm.Cond.methodLink "CardLoomLaw" (104 : Nat) ({ cls := "CardLoomModel", name := "lines", desc := "(I)I" } : Jvm.MethodName)) ∈ lw_all := lw_g (lw_at lw_m11 131 rfl) rfl
theorem q2612 : (Jvm.Cond.methodLink "CardLoomLaw" (108 : Nat) ({ cls := "CardLoomModel", name := "draft", desc := "(II)I" } : Jvm.MethodName)) ∈ lw_all := lw_g (lw_at lw_m11 135 rfl) rfl
theorem q2629 : (Jvm.Cond.methodLink "CardLoomLaw" (112 : Nat) ({ cls := "CardLoomModel", name := "fewest", desc := "(I)I" } : Jvm.MethodName)) ∈ lw_all := lw_g (lw_at lw_m11 152 rfl) rfl
theorem q2633 : (Jvm.Cond.methodLink "CardLoomLaw" (116 : Nat) ({ cls := "CardLoomModel", name := "weaveDraft", desc := "()I" } : Jvm.MethodName)) ∈ lw_all := lw_g (lw_at lw_m11 156 rfl) rfl
theorem q2639 : (Jvm.Cond.methodLink "CardLoomLaw" (120 : Nat) ({ cls := "CardLoomModel", name := "matches", desc := "(I)I" } : Jvm.MethodName)) ∈ lw_all := lw_g (lw_at lw_m11 162 rfl) rfl
theorem q2643 : (Jvm.Cond.methodLink "CardLoomLaw" (124 : Nat) ({ cls := "CardLoomModel", name := "period", desc := "()I" } : Jvm.MethodName)) ∈ lw_all := lw_g (lw_at lw_m11 166 rfl) rfl
theorem q2651 : (Jvm.Cond.methodLink "CardLoomLaw" (128 : Nat) ({ cls := "CardLoomModel", name := "mirrors", desc := "()I" } : Jvm.MethodName)) ∈ lw_all := lw_g (lw_at lw_m11 174 rfl) rfl
theorem q2655 : (Jvm.Cond.methodLink "CardLoomLaw" (132 : Nat) ({ cls := "CardLoomModel", name := "run", desc := "(I)I" } : Jvm.MethodName)) ∈ lw_all := lw_g (lw_at lw_m11 178 rfl) rfl
theorem q2659 : (Jvm.Cond.methodLink "CardLoomLaw" (136 : Nat) ({ cls := "CardLoomModel", name := "colours", desc := "(II)I" } : Jvm.MethodName)) ∈ lw_all := lw_g (lw_at lw_m11 182 rfl) rfl
theorem q2667 : (Jvm.Cond.methodLink "CardLoomLaw" (140 : Nat) ({ cls := "CardLoomModel", name := "ranked", desc := "(I)I" } : Jvm.MethodName)) ∈ lw_all := lw_g (lw_at lw_m11 190 rfl) rfl
theorem q2675 : (Jvm.Cond.methodLink "CardLoomLaw" (144 : Nat) ({ cls := "CardLoomModel", name := "alike", desc := "(II)I" } : Jvm.MethodName)) ∈ lw_all := lw_g (lw_at lw_m11 198 rfl) rfl
theorem q2679 : (Jvm.Cond.methodLink "CardLoomLaw" (148 : Nat) ({ cls := "CardLoomModel", name := "faces", desc := "(I)I" } : Jvm.MethodName)) ∈ lw_all := lw_g (lw_at lw_m11 202 rfl) rfl
theorem q2683 : (Jvm.Cond.methodLink "CardLoomLaw" (152 : Nat) ({ cls := "CardLoomModel", name := "spell", desc := "()I" } : Jvm.MethodName)) ∈ lw_all := lw_g (lw_at lw_m11 206 rfl) rfl
theorem q2687 : (Jvm.Cond.methodLink "CardLoomLaw" (156 : Nat) ({ cls := "CardLoomModel", name := "paper", desc := "(I)I" } : Jvm.MethodName)) ∈ lw_all := lw_g (lw_at lw_m11 210 rfl) rfl
theorem q2691 : (Jvm.Cond.methodLink "CardLoomLaw" (160 : Nat) ({ cls := "CardLoomModel", name := "told", desc := "(I)I" } : Jvm.MethodName)) ∈ lw_all := lw_g (lw_at lw_m11 214 rfl) rfl
theorem q2696 : (Jvm.Cond.methodLink "CardLoomLaw" (164 : Nat) ({ cls := "CardLoomModel", name := "list", desc := "(II)I" } : Jvm.MethodName)) ∈ lw_all := lw_g (lw_at lw_m11 219 rfl) rfl
theorem q2703 : (Jvm.Cond.methodLink "CardLoomLaw" (168 : Nat) ({ cls := "CardLoomModel", name := "set", desc := "(III)I" } : Jvm.MethodName)) ∈ lw_all := lw_g (lw_at lw_m11 226 rfl) rfl
theorem q2707 : (Jvm.Cond.methodLink "CardLoomLaw" (172 : Nat) ({ cls := "CardLoomModel", name := "get", desc := "(II)I" } : Jvm.MethodName)) ∈ lw_all := lw_g (lw_at lw_m11 230 rfl) rfl
theorem q2712 : (Jvm.Cond.methodLink "CardLoomLaw" (176 : Nat) ({ cls := "CardLoomModel", name := "lay", desc := "(III)I" } : Jvm.MethodName)) ∈ lw_all := lw_g (lw_at lw_m11 235 rfl) rfl
theorem q2716 : (Jvm.Cond.methodLink "CardLoomLaw" (180 : Nat) ({ cls := "CardLoomModel", name := "judge", desc := "(III)I" } : Jvm.MethodName)) ∈ lw_all := lw_g (lw_at lw_m11 239 rfl) rfl
theorem q2720 : (Jvm.Cond.methodLink "CardLoomLaw" (184 : Nat) ({ cls := "CardLoomModel", name := "image", desc := "()I" } : Jvm.MethodName)) ∈ lw_all := lw_g (lw_at lw_m12 3 rfl) rfl
theorem q2731 : (Jvm.Cond.methodLink "CardLoomLaw" (188 : Nat) ({ cls := "CardLoomModel", name := "undo", desc := "()I" } : Jvm.MethodName)) ∈ lw_all := lw_g (lw_at lw_m12 14 rfl) rfl
theorem q1079 : (Jvm.Cond.interfaceMethod "CardLoom$Asks" "CardLoom$Asks" "isSo" "(Ljava/util/ArrayList;)Z") ∈ lw_tbl := lw_at lw_m5 42 rfl
set_option maxRecDepth 100000
theorem q1080 : (Jvm.Cond.declares ({ cls := "CardLoom$Asks", name := "isSo", desc := "(Ljava/util/ArrayList;)Z" } : Jvm.MethodName)) ∈ lw_tbl := lw_at lw_m5 43 rfl
theorem q1535 : (Jvm.Cond.interfaceMethod "CardLoom$Drafting" "CardLoom$Drafting" "least" "(II)I") ∈ lw_tbl := lw_at lw_m7 18 rfl
set_option maxRecDepth 100000
theorem q1536 : (Jvm.Cond.declares ({ cls := "CardLoom$Drafting", name := "least", desc := "(II)I" } : Jvm.MethodName)) ∈ lw_tbl := lw_at lw_m7 19 rfl
theorem q1559 : (Jvm.Cond.interfaceMethod "CardLoom$Drafting" "CardLoom$Drafting" "best" "(II)LCardLoom$Turning;") ∈ lw_tbl := lw_at lw_m7 42 rfl
theorem q1560 : (Jvm.Cond.declares ({ cls := "CardLoom$Drafting", name := "best", desc := "(II)LCardLoom$Turning;" } : Jvm.MethodName)) ∈ lw_tbl := lw_at lw_m7 43 rfl
theorem q602 : (Jvm.Cond.interfaceMethod "CardLoom$Law" "CardLoom$Law" "of" "(III)LCardLoom$Turning;") ∈ lw_tbl := lw_at lw_m3 45 rfl
set_option maxRecDepth 100000
theorem q603 : (Jvm.Cond.declares ({ cls := "CardLoom$Law", name := "of", desc := "(III)LCardLoom$Turning;" } : Jvm.MethodName)) ∈ lw_tbl := lw_at lw_m3 46 rfl
theorem q2071 : (Jvm.Cond.sameMethod "[B" "java/lang/Object" "clone" "()Ljava/lang/Object;") ∈ lw_all := lw_g (lw_at lw_m9 74 rfl) rfl
set_option maxRecDepth 100000
theorem q2072 : (Jvm.Cond.selects "[B" ({ cls := "[B", name := "clone", desc := "()Ljava/lang/Object;" } : Jvm.MethodName) ({ cls := "java/lang/Object", name := "clone", desc := "()Ljava/lang/Object;" } : Jvm.MethodName)) ∈ lw_all := lw_g (lw_at lw_m9 75 rfl) rfl
theorem q2073 : (Jvm.Cond.castable "[B" "java/lang/Cloneable") ∈ lw_tbl := lw_at lw_m9 76 rfl
theorem q2797 : (Jvm.Cond.castable "[B" "java/lang/Object") ∈ lw_tbl := lw_at lw_m12 80 rfl
theorem q1072 : (Jvm.Cond.sameMethod "[I" "java/lang/Object" "clone" "()Ljava/lang/Object;") ∈ lw_all := lw_g (lw_at lw_m5 35 rfl) rfl
set_option maxRecDepth 100000
theorem q1073 : (Jvm.Cond.selects "[I" ({ cls := "[I", name := "clone", desc := "()Ljava/lang/Object;" } : Jvm.MethodName) ({ cls := "java/lang/Object", name := "clone", desc := "()Ljava/lang/Object;" } : Jvm.MethodName)) ∈ lw_all := lw_g (lw_at lw_m5 36 rfl) rfl
theorem q1074 : (Jvm.Cond.castable "[I" "java/lang/Cloneable") ∈ lw_tbl := lw_at lw_m5 37 rfl
theorem q2798 : (Jvm.Cond.castable "[I" "java/lang/Object") ∈ lw_tbl := lw_at lw_m12 81 rfl
theorem q879 : (Jvm.Cond.sameMethod "[J" "java/lang/Object" "clone" "()Ljava/lang/Object;") ∈ lw_all := lw_g (lw_at lw_m4 82 rfl) rfl
set_option maxRecDepth 100000
theorem q882 : (Jvm.Cond.selects "[J" ({ cls := "[J", name := "clone", desc := "()Ljava/lang/Object;" } : Jvm.MethodName) ({ cls := "java/lang/Object", name := "clone", desc := "()Ljava/lang/Object;" } : Jvm.MethodName)) ∈ lw_all := lw_g (lw_at lw_m4 85 rfl) rfl
theorem q883 : (Jvm.Cond.castable "[J" "java/lang/Cloneable") ∈ lw_tbl := lw_at lw_m4 86 rfl
theorem q2800 : (Jvm.Cond.castable "[J" "java/lang/Object") ∈ lw_tbl := lw_at lw_m12 83 rfl
theorem q2796 : (Jvm.Cond.castable "[LCardLoom$Colour;" "java/lang/Object") ∈ lw_tbl := lw_at lw_m12 79 rfl
set_option maxRecDepth 100000
theorem q2801 : (Jvm.Cond.castable "[LCardLoom$Turning;" "java/lang/Object") ∈ lw_tbl := lw_at lw_m12 84 rfl
set_option maxRecDepth 100000
theorem q2792 : (Jvm.Cond.sameMethod "[Ljava/lang/Object;" "java/lang/Object" "getClass" "()Ljava/lang/Class;") ∈ lw_all := lw_g (lw_at lw_m12 75 rfl) rfl
set_option maxRecDepth 100000
theorem q2793 : (Jvm.Cond.selects "[Ljava/lang/Object;" ({ cls := "java/lang/Object", name := "getClass", desc := "()Ljava/lang/Class;" } : Jvm.MethodName) ({ cls := "java/lang/Object", name := "getClass", desc := "()Ljava/lang/Class;" } : Jvm.MethodName)) ∈ lw_all := lw_g (lw_at lw_m12 76 rfl) rfl
theorem q2799 : (Jvm.Cond.castable "[Ljava/lang/Object;" "java/lang/Object") ∈ lw_tbl := lw_at lw_m12 82 rfl
theorem q2802 : (Jvm.Cond.castable "[Z" "java/lang/Object") ∈ lw_tbl := lw_at lw_m12 85 rfl
set_option maxRecDepth 100000
theorem q2795 : (Jvm.Cond.castable "[[I" "java/lang/Object") ∈ lw_tbl := lw_at lw_m12 78 rfl
set_option maxRecDepth 100000
theorem q1219 : (Jvm.Cond.interfaceMethod "java/lang/Comparable" "java/lang/Comparable" "compareTo" "(Ljava/lang/Object;)I") ∈ lw_tbl := lw_at lw_m5 182 rfl
set_option maxRecDepth 100000
theorem q1220 : (Jvm.Cond.declares ({ cls := "java/lang/Comparable", name := "compareTo", desc := "(Ljava/lang/Object;)I" } : Jvm.MethodName)) ∈ lw_tbl := lw_at lw_m5 183 rfl
theorem q116 : (Jvm.Cond.initialized "java/lang/Number") ∈ lw_all := lw_g (lw_at lw_m1 39 rfl) rfl
set_option maxRecDepth 100000
theorem q94 : (Jvm.Cond.initialized "java/lang/System") ∈ lw_all := lw_g (lw_at lw_m1 17 rfl) rfl
set_option maxRecDepth 100000
theorem q475 : (Jvm.Cond.static ({ cls := "java/lang/System", name := "arraycopy", desc := "(Ljava/lang/Object;ILjava/lang/Object;II)V" } : Jvm.MethodName)) ∈ lw_all := lw_g (lw_at lw_m2 158 rfl) rfl
theorem q476 : (Jvm.Cond.native ({ cls := "java/lang/System", name := "arraycopy", desc := "(Ljava/lang/Object;ILjava/lang/Object;II)V" } : Jvm.MethodName)) ∈ lw_all := lw_g (lw_at lw_m2 159 rfl) rfl
theorem q1842 : (Jvm.Cond.interfaceMethod "java/util/Collection" "java/util/Collection" "iterator" "()Ljava/util/Iterator;") ∈ lw_tbl := lw_at lw_m8 85 rfl
set_option maxRecDepth 100000
theorem q1843 : (Jvm.Cond.declares ({ cls := "java/util/Collection", name := "iterator", desc := "()Ljava/util/Iterator;" } : Jvm.MethodName)) ∈ lw_tbl := lw_at lw_m8 86 rfl
theorem q1185 : (Jvm.Cond.interfaceMethod "java/util/Comparator" "java/util/Comparator" "compare" "(Ljava/lang/Object;Ljava/lang/Object;)I") ∈ lw_tbl := lw_at lw_m5 148 rfl
set_option maxRecDepth 100000
theorem q1186 : (Jvm.Cond.declares ({ cls := "java/util/Comparator", name := "compare", desc := "(Ljava/lang/Object;Ljava/lang/Object;)I" } : Jvm.MethodName)) ∈ lw_tbl := lw_at lw_m5 149 rfl
theorem q730 : (Jvm.Cond.interfaceMethod "java/util/Iterator" "java/util/Iterator" "hasNext" "()Z") ∈ lw_tbl := lw_at lw_m3 173 rfl
set_option maxRecDepth 100000
theorem q731 : (Jvm.Cond.declares ({ cls := "java/util/Iterator", name := "hasNext", desc := "()Z" } : Jvm.MethodName)) ∈ lw_tbl := lw_at lw_m3 174 rfl
theorem q759 : (Jvm.Cond.interfaceMethod "java/util/Iterator" "java/util/Iterator" "next" "()Ljava/lang/Object;") ∈ lw_tbl := lw_at lw_m3 202 rfl
theorem q760 : (Jvm.Cond.declares ({ cls := "java/util/Iterator", name := "next", desc := "()Ljava/lang/Object;" } : Jvm.MethodName)) ∈ lw_tbl := lw_at lw_m3 203 rfl
theorem q1463 : (Jvm.Cond.declares ({ cls := "java/util/Map", name := "size", desc := "()I" } : Jvm.MethodName)) ∈ lw_tbl := lw_at lw_m6 186 rfl
set_option maxRecDepth 100000
theorem q1978 : (Jvm.Cond.declares ({ cls := "java/util/Map", name := "put", desc := "(Ljava/lang/Object;Ljava/lang/Object;)Ljava/lang/Object;" } : Jvm.MethodName)) ∈ lw_tbl := lw_at lw_m8 221 rfl
theorem q1946 : (Jvm.Cond.interfaceMethod "java/util/NavigableMap" "java/util/NavigableMap" "navigableKeySet" "()Ljava/util/NavigableSet;") ∈ lw_tbl := lw_at lw_m8 189 rfl
set_option maxRecDepth 100000
theorem q1947 : (Jvm.Cond.declares ({ cls := "java/util/NavigableMap", name := "navigableKeySet", desc := "()Ljava/util/NavigableSet;" } : Jvm.MethodName)) ∈ lw_tbl := lw_at lw_m8 190 rfl
theorem q1965 : (Jvm.Cond.interfaceMethod "java/util/NavigableSet" "java/util/NavigableSet" "iterator" "()Ljava/util/Iterator;") ∈ lw_tbl := lw_at lw_m8 208 rfl
set_option maxRecDepth 100000
theorem q1966 : (Jvm.Cond.declares ({ cls := "java/util/NavigableSet", name := "iterator", desc := "()Ljava/util/Iterator;" } : Jvm.MethodName)) ∈ lw_tbl := lw_at lw_m8 209 rfl
theorem q1918 : (Jvm.Cond.declares ({ cls := "java/util/TreeMap$NavigableSubMap", name := "keyIterator", desc := "()Ljava/util/Iterator;" } : Jvm.MethodName)) ∈ lw_tbl := lw_at lw_m8 161 rfl
set_option maxRecDepth 100000
theorem q1919 : (Jvm.Cond.selects "java/util/TreeMap$NavigableSubMap" ({ cls := "java/util/TreeMap$NavigableSubMap", name := "keyIterator", desc := "()Ljava/util/Iterator;" } : Jvm.MethodName) ({ cls := "java/util/TreeMap$NavigableSubMap", name := "keyIterator", desc := "()Ljava/util/Iterator;" } : Jvm.MethodName)) ∈ lw_all := lw_g (lw_at lw_m8 162 rfl) rfl
theorem q115 : (Jvm.Cond.initialized "jdk/internal/misc/UnsafeConstants") ∈ lw_all := lw_g (lw_at lw_m1 38 rfl) rfl
set_option maxRecDepth 100000
theorem q1319 : (Jvm.Cond.laysStatic "jdk/internal/misc/UnsafeConstants" "BIG_ENDIAN" "Z") ∈ lw_tbl := lw_at lw_m6 42 rfl
theorem q178 : (Jvm.Cond.arrayOver (Jvm.ClassFile.FieldType.array Jvm.ClassFile.FieldType.int)) ∈ lw_tbl := lw_at lw_m1 101 rfl
set_option maxRecDepth 100000
theorem q183 : (Jvm.Cond.arrayOver (Jvm.ClassFile.FieldType.object "CardLoom$Colour")) ∈ lw_tbl := lw_at lw_m1 106 rfl
theorem q194 : (Jvm.Cond.arrayClass Jvm.ClassFile.FieldType.byte) ∈ lw_all := lw_g (lw_at lw_m1 117 rfl) rfl
theorem q195 : (Jvm.Cond.arrayClass Jvm.ClassFile.FieldType.int) ∈ lw_all := lw_g (lw_at lw_m1 118 rfl) rfl
theorem q469 : (Jvm.Cond.arrayOver (Jvm.ClassFile.FieldType.object "java/lang/Object")) ∈ lw_tbl := lw_at lw_m2 152 rfl
theorem q861 : (Jvm.Cond.arrayClass Jvm.ClassFile.FieldType.long) ∈ lw_all := lw_g (lw_at lw_m4 64 rfl) rfl
theorem q897 : (Jvm.Cond.arrayOver (Jvm.ClassFile.FieldType.object "CardLoom$Turning")) ∈ lw_tbl := lw_at lw_m4 100 rfl
theorem q2426 : (Jvm.Cond.arrayClass Jvm.ClassFile.FieldType.boolean) ∈ lw_all := lw_g (lw_at lw_m10 189 rfl) rfl
