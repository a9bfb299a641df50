theorem q93 : (Jvm.Cond.initialized "SignalWavesLaw") ∈ lw_all := lw_g (lw_at lw_m1 0 rfl) rfl
set_option maxRecDepth 100000
theorem q157 : (Jvm.Cond.classLink "SignalWavesLaw" (7 : Nat) "SignalWaves") ∈ lw_all := lw_g (lw_at lw_m1 64 rfl) rfl
theorem q159 : (Jvm.Cond.methodLink "SignalWavesLaw" (9 : Nat) ({ cls := "SignalWaves", name := "<init>", desc := "()V" } : Jvm.MethodName)) ∈ lw_all := lw_g (lw_at lw_m1 66 rfl) rfl
theorem q1111 : (Jvm.Cond.methodLink "SignalWavesLaw" (13 : Nat) ({ cls := "SignalWaves", name := "type", desc := "(I)I" } : Jvm.MethodName)) ∈ lw_all := lw_g (lw_at lw_m5 58 rfl) rfl
theorem q1118 : (Jvm.Cond.methodLink "SignalWavesLaw" (18 : Nat) ({ cls := "SignalWaves", name := "clear", desc := "()I" } : Jvm.MethodName)) ∈ lw_all := lw_g (lw_at lw_m5 65 rfl) rfl
theorem q1122 : (Jvm.Cond.methodLink "SignalWavesLaw" (23 : Nat) ({ cls := "SignalWaves", name := "tells", desc := "()I" } : Jvm.MethodName)) ∈ lw_all := lw_g (lw_at lw_m5 69 rfl) rfl
theorem q1617 : (Jvm.Cond.methodLink "SignalWavesLaw" (27 : Nat) ({ cls := "SignalWaves", name := "node", desc := "()I" } : Jvm.MethodName)) ∈ lw_all := lw_g (lw_at lw_m7 84 rfl) rfl
theorem q1717 : (Jvm.Cond.methodLink "SignalWavesLaw" (31 : Nat) ({ cls := "SignalWaves", name := "about", desc := "(II)I" } : Jvm.MethodName)) ∈ lw_all := lw_g (lw_at lw_m7 184 rfl) rfl
theorem q1777 : (Jvm.Cond.methodLink "SignalWavesLaw" (36 : Nat) ({ cls := "SignalWaves", name := "scope", desc := "(II)I" } : Jvm.MethodName)) ∈ lw_all := lw_g (lw_at lw_m8 4 rfl) rfl
theorem q1782 : (Jvm.Cond.methodLink "SignalWavesLaw" (40 : Nat) ({ cls := "SignalWaves", name := "listed", desc := "(II)I" } : Jvm.MethodName)) ∈ lw_all := lw_g (lw_at lw_m8 9 rfl) rfl
theorem q1965 : (Jvm.Cond.methodLink "SignalWavesLaw" (44 : Nat) ({ cls := "SignalWaves", name := "path", desc := "(II)I" } : Jvm.MethodName)) ∈ lw_all := lw_g (lw_at lw_m8 192 rfl) rfl
theorem q1971 : (Jvm.Cond.methodLink "SignalWavesLaw" (48 : Nat) ({ cls := "SignalWaves", name := "sets", desc := "(II)I" } : Jvm.MethodName)) ∈ lw_all := lw_g (lw_at lw_m8 198 rfl) rfl
theorem q2137 : (Jvm.Cond.methodLink "SignalWavesLaw" (52 : Nat) ({ cls := "SignalWaves", name := "passes", desc := "(I)I" } : Jvm.MethodName)) ∈ lw_all := lw_g (lw_at lw_m9 124 rfl) rfl
theorem q2141 : (Jvm.Cond.methodLink "SignalWavesLaw" (56 : Nat) ({ cls := "SignalWaves", name := "dumps", desc := "(I)I" } : Jvm.MethodName)) ∈ lw_all := lw_g (lw_at lw_m9 128 rfl) rfl
theorem q2150 : (Jvm.Cond.methodLink "SignalWavesLaw" (60 : Nat) ({ cls := "SignalWaves", name := "sizes", desc := "(I)I" } : Jvm.MethodName)) ∈ lw_all := lw_g (lw_at lw_m9 137 rfl) rfl
theorem q2154 : (Jvm.Cond.methodLink "SignalWavesLaw" (64 : Nat) ({ cls := "SignalWaves", name := "undo", desc := "()I" } : Jvm.MethodName)) ∈ lw_all := lw_g (lw_at lw_m9 141 rfl) rfl
theorem q2158 : (Jvm.Cond.methodLink "SignalWavesLaw" (68 : Nat) ({ cls := "SignalWaves", name := "at", desc := "(II)I" } : Jvm.MethodName)) ∈ lw_all := lw_g (lw_at lw_m9 145 rfl) rfl
theorem q2211 : (Jvm.Cond.methodLink "SignalWavesLaw" (72 : Nat) ({ cls := "SignalWaves", name := "edges", desc := "(IIII)I" } : Jvm.MethodName)) ∈ lw_all := lw_g (lw_at lw_m9 198 rfl) rfl
theorem q2226 : (Jvm.Cond.methodLink "SignalWavesLaw" (77 : Nat) ({ cls := "SignalWaves", name := "next", desc := "(III)I" } : Jvm.MethodName)) ∈ lw_all := lw_g (lw_at lw_m9 213 rfl) rfl
theorem q2234 : (Jvm.Cond.methodLink "SignalWavesLaw" (82 : Nat) ({ cls := "SignalWaves", name := "previous", desc := "(III)I" } : Jvm.MethodName)) ∈ lw_all := lw_g (lw_at lw_m9 221 rfl) rfl
theorem q2238 : (Jvm.Cond.methodLink "SignalWavesLaw" (86 : Nat) ({ cls := "SignalWaves", name := "first", desc := "(III)I" } : Jvm.MethodName)) ∈ lw_all := lw_g (lw_at lw_m9 225 rfl) rfl
theorem q2245 : (Jvm.Cond.methodLink "SignalWavesLaw" (90 : Nat) ({ cls := "SignalWaves", name := "holds", desc := "(III)I" } : Jvm.MethodName)) ∈ lw_all := lw_g (lw_at lw_m9 232 rfl) rfl
theorem q2249 : (Jvm.Cond.methodLink "SignalWavesLaw" (94 : Nat) ({ cls := "SignalWaves", name := "ticks", desc := "(II)I" } : Jvm.MethodName)) ∈ lw_all := lw_g (lw_at lw_m9 236 rfl) rfl
theorem q2356 : (Jvm.Cond.methodLink "SignalWavesLaw" (98 : Nat) ({ cls := "SignalWaves", name := "delay", desc := "(II)I" } : Jvm.MethodName)) ∈ lw_all := lw_g (lw_at lw_m10 103 rfl) rfl
theorem q2364 : (Jvm.Cond.methodLink "SignalWavesLaw" (102 : Nat) ({ cls := "SignalWaves", name := "jump", desc := "(I)I" } : Jvm.MethodName)) ∈ lw_all := lw_g (lw_at lw_m10 111 rfl) rfl
theorem q2465 : (Jvm.Cond.methodLink "SignalWavesLaw" (106 : Nat) ({ cls := "SignalWaves", name := "block", desc := "(II)I" } : Jvm.MethodName)) ∈ lw_all := lw_g (lw_at lw_m10 212 rfl) rfl
theorem q2510 : (Jvm.Cond.methodLink "SignalWavesLaw" (110 : Nat) ({ cls := "SignalWaves", name := "frame", desc := "(II)I" } : Jvm.MethodName)) ∈ lw_all := lw_g (lw_at lw_m11 17 rfl) rfl
theorem q2514 : (Jvm.Cond.methodLink "SignalWavesLaw" (114 : Nat) ({ cls := "SignalWaves", name := "change", desc := "(III)I" } : Jvm.MethodName)) ∈ lw_all := lw_g (lw_at lw_m11 21 rfl) rfl
theorem q2518 : (Jvm.Cond.methodLink "SignalWavesLaw" (118 : Nat) ({ cls := "SignalWaves", name := "packed", desc := "(I)I" } : Jvm.MethodName)) ∈ lw_all := lw_g (lw_at lw_m11 25 rfl) rfl
theorem q2545 : (Jvm.Cond.methodLink "SignalWavesLaw" (122 : Nat) ({ cls := "SignalWaves", name := "best", desc := "()I" } : Jvm.MethodName)) ∈ lw_all := lw_g (lw_at lw_m11 52 rfl) rfl
theorem q2550 : (Jvm.Cond.methodLink "SignalWavesLaw" (126 : Nat) ({ cls := "SignalWaves", name := "sees", desc := "(II)I" } : Jvm.MethodName)) ∈ lw_all := lw_g (lw_at lw_m11 57 rfl) rfl
theorem q2554 : (Jvm.Cond.methodLink "SignalWavesLaw" (130 : Nat) ({ cls := "SignalWaves", name := "forget", desc := "()I" } : Jvm.MethodName)) ∈ lw_all := lw_g (lw_at lw_m11 61 rfl) rfl
theorem q2558 : (Jvm.Cond.methodLink "SignalWavesLaw" (134 : Nat) ({ cls := "SignalWaves", name := "which", desc := "()I" } : Jvm.MethodName)) ∈ lw_all := lw_g (lw_at lw_m11 65 rfl) rfl
theorem q2562 : (Jvm.Cond.methodLink "SignalWavesLaw" (138 : Nat) ({ cls := "SignalWaves", name := "look", desc := "()I" } : Jvm.MethodName)) ∈ lw_all := lw_g (lw_at lw_m11 69 rfl) rfl
theorem q2577 : (Jvm.Cond.methodLink "SignalWavesLaw" (142 : Nat) ({ cls := "SignalWaves", name := "keep", desc := "(I)I" } : Jvm.MethodName)) ∈ lw_all := lw_g (lw_at lw_m11 84 rfl) rfl
theorem q2581 : (Jvm.Cond.methodLink "SignalWavesLaw" (146 : Nat) ({ cls := "SignalWaves", name := "back", desc := "(I)I" } : Jvm.MethodName)) ∈ lw_all := lw_g (lw_at lw_m11 88 rfl) rfl
theorem q2585 : (Jvm.Cond.methodLink "SignalWavesLaw" (150 : Nat) ({ cls := "SignalWaves", name := "count", desc := "(I)I" } : Jvm.MethodName)) ∈ lw_all := lw_g (lw_at lw_m11 92 rfl) rfl
theorem q2589 : (Jvm.Cond.classLink "SignalWavesLaw" (10 : Nat) "SignalWavesModel") ∈ lw_all := lw_g (lw_at lw_m11 96 rfl) rfl
theorem q2591 : (Jvm.Cond.methodLink "SignalWavesLaw" (12 : Nat) ({ cls := "SignalWavesModel", name := "<init>", desc := "()V" } : Jvm.MethodName)) ∈ lw_all := lw_g (lw_at lw_m11 98 rfl) rfl
theorem q2758 : (Jvm.Cond.methodLink "SignalWavesLaw" (17 : Nat) ({ cls := "SignalWavesModel", name := "type", desc := "(I)I" } : Jvm.MethodName)) ∈ lw_all := lw_g (lw_at lw_m12 25 rfl) rfl
theorem q2765 : (Jvm.Cond.methodLink "SignalWavesLaw" (22 : Nat) ({ cls := "SignalWavesModel", name := "clear", desc := "()I" } : Jvm.MethodName)) ∈ lw_all := lw_g (lw_at lw_m12 32 rfl) rfl
theorem q2769 : (Jvm.Cond.methodLink "SignalWavesLaw" (26 : Nat) ({ cls := "SignalWavesModel", name := "tells", desc := "()I" } : Jvm.MethodName)) ∈ lw_all := lw_g (lw_at lw_m12 36 rfl) rfl
theorem q2852 : (Jvm.Cond.methodLink "SignalWavesLaw" (30 : Nat) ({ cls := "SignalWavesModel", name := "node", desc := "()I" } : Jvm.MethodName)) ∈ lw_all := lw_g (lw_at lw_m12 119 rfl) rfl
theorem q2868 : (Jvm.Cond.methodLink "SignalWavesLaw" (35 : Nat) ({ cls := "SignalWavesModel", name := "about", desc := "(II)I" } : Jvm.MethodName)) ∈ lw_all := lw_g (lw_at lw_m12 135 rfl) rfl
theorem q2887 : (Jvm.Cond.methodLink "SignalWavesLaw" (39 : Nat) ({ cls := "SignalWavesModel", name := "scope", desc := "(II)I" } : Jvm.MethodName)) ∈ lw_all := lw_g (lw_at lw_m12 154 rfl) rfl
theorem q2891 : (Jvm.Cond.methodLink "SignalWavesLaw" (43 : Nat) ({ cls := "SignalWavesModel", name := "listed", desc := "(II)I" } : Jvm.MethodName)) ∈ lw_all := lw_g (lw_at lw_m12 158 rfl) rfl
theorem q2895 : (Jvm.Cond.methodLink "SignalWavesLaw" (47 : Nat) ({ cls := "SignalWavesModel", name := "path", desc := "(II)I" } : Jvm.MethodName)) ∈ lw_all := lw_g (lw_at lw_m12 162 rfl) rfl
theorem q2899 : (Jvm.Cond.methodLink "SignalWavesLaw" (51 : Nat) ({ cls := "SignalWavesModel", name := "sets", desc := "(II)I" } : Jvm.MethodName)) ∈ lw_all := lw_g (lw_at lw_m12 166 rfl) rfl
theorem q2911 : (Jvm.Cond.methodLink "SignalWavesLaw" (55 : Nat) ({ cls := "SignalWavesModel", name := "passes", desc := "(I)I" } : Jvm.MethodName)) ∈ lw_all := lw_g (lw_at lw_m12 178 rfl) rfl
theorem q2915 : (Jvm.Cond.methodLink "SignalWavesLaw" (59 : Nat) ({ cls := "SignalWavesModel", name := "dumps", desc := "(I)I" } : Jvm.MethodName)) ∈ lw_all := lw_g (lw_at lw_m12 182 rfl) rfl
theorem q2919 : (Jvm.Cond.methodLink "SignalWavesLaw" (63 : Nat) ({ cls := "SignalWavesModel", name := "sizes", desc := "(I)I" } : Jvm.MethodName)) ∈ lw_all := lw_g (lw_at lw_m12 186 rfl) rfl
theorem q2923 : (Jvm.Cond.methodLink "SignalWavesLaw" (67 : Nat) ({ cls := "SignalWavesModel", name := "undo", desc := "()I" } : Jvm.MethodName)) ∈ lw_all := lw_g (lw_at lw_m12 190 rfl) rfl
theorem q2927 : (Jvm.Cond.methodLink "SignalWavesLaw" (71 : Nat) ({ cls := "SignalWavesModel", name := "at", desc := "(II)I" } : Jvm.MethodName)) ∈ lw_all := lw_g (lw_at lw_m12 194 rfl) rfl
theorem q2943 : (Jvm.Cond.methodLink "SignalWavesLaw" (76 : Nat) ({ cls := "SignalWavesModel", name := "edges", desc := "(IIII)I" } : Jvm.MethodName)) ∈ lw_all := lw_g (lw_at lw_m12 210 rfl) rfl
theorem q2962 : (Jvm.Cond.methodLink "SignalWavesLaw" (81 : Nat) ({ cls := "SignalWavesModel", name := "next", desc := "(III)I" } : Jvm.MethodName)) ∈ lw_all := lw_g (lw_at lw_m12 229 rfl) rfl
theorem q2966 : (Jvm.Cond.methodLink "SignalWavesLaw" (85 : Nat) ({ cls := "SignalWavesModel", name := "previous", desc := "(III)I" } : Jvm.MethodName)) ∈ lw_all := lw_g (lw_at lw_m12 233 rfl) rfl
theorem q2970 : (Jvm.Cond.methodLink "SignalWavesLaw" (89 : Nat) ({ cls := "SignalWavesModel", name := "first", desc := "(III)I" } : Jvm.MethodName)) ∈ lw_all := lw_g (lw_at lw_m12 237 rfl) rfl
theorem q2974 : (Jvm.Cond.methodLink "SignalWavesLaw" (93 : Nat) ({ cls := "SignalWavesModel", name := "holds", desc := "(III)I" } : Jvm.MethodName)) ∈ lw_all := lw_g (lw_at lw_m13 1 rfl) rfl
theorem q2978 : (Jvm.Cond.methodLink "SignalWavesLaw" (97 : Nat) ({ cls := "SignalWavesModel", name := "ticks", desc := "(II)I" } : Jvm.MethodName)) ∈ lw_all := lw_g (lw_at lw_m13 5 rfl) rfl
theorem q2986 : (Jvm.Cond.methodLink "SignalWavesLaw" (101 : Nat) ({ cls := "SignalWavesModel", name := "delay", desc := "(II)I" } : Jvm.MethodName)) ∈ lw_all := lw_g (lw_at lw_m13 13 rfl) rfl
theorem q2990 : (Jvm.Cond.methodLink "SignalWavesLaw" (105 : Nat) ({ cls := "SignalWavesModel", name := "jump", desc := "(I)I" } : Jvm.MethodName)) ∈ lw_all := lw_g (lw_at lw_m13 17 rfl) rfl
theorem q2994 : (Jvm.Cond.methodLink "SignalWavesLaw" (109 : Nat) ({ cls := "SignalWavesModel", name := "block", desc := "(II)I" } : Jvm.MethodName)) ∈ lw_all := lw_g (lw_at lw_m13 21 rfl) rfl
theorem q3018 : (Jvm.Cond.methodLink "SignalWavesLaw" (113 : Nat) ({ cls := "SignalWavesModel", name := "frame", desc := "(II)I" } : Jvm.MethodName)) ∈ lw_all := lw_g (lw_at lw_m13 45 rfl) rfl
theorem q3022 : (Jvm.Cond.methodLink "SignalWavesLaw" (117 : Nat) ({ cls := "SignalWavesModel", name := "change", desc := "(III)I" } : Jvm.MethodName)) ∈ lw_all := lw_g (lw_at lw_m13 49 rfl) rfl
theorem q3030 : (Jvm.Cond.methodLink "SignalWavesLaw" (121 : Nat) ({ cls := "SignalWavesModel", name := "packed", desc := "(I)I" } : Jvm.MethodName)) ∈ lw_all := lw_g (lw_at lw_m13 57 rfl) rfl
theorem q3042 : (Jvm.Cond.methodLink "SignalWavesLaw" (125 : Nat) ({ cls := "SignalWavesModel", name := "best", desc := "()I" } : Jvm.MethodName)) ∈ lw_all := lw_g (lw_at lw_m13 69 rfl) rfl
theorem q3046 : (Jvm.Cond.methodLink "SignalWavesLaw" (129 : Nat) ({ cls := "SignalWavesModel", name := "sees", desc := "(II)I" } : Jvm.MethodName)) ∈ lw_all := lw_g (lw_at lw_m13 73 rfl) rfl
theorem q3050 : (Jvm.Cond.methodLink "SignalWavesLaw" (133 : Nat) ({ cls := "SignalWavesModel", name := "forget", desc := "()I" } : Jvm.MethodName)) ∈ lw_all := lw_g (lw_at lw_m13 77 rfl) rfl
theorem q3054 : (Jvm.Cond.methodLink "SignalWavesLaw" (137 : Nat) ({ cls := "SignalWavesModel", name := "which", desc := "()I" } : Jvm.MethodName)) ∈ lw_all := lw_g (lw_at lw_m13 81 rfl) rfl
theorem q3062 : (Jvm.Cond.methodLink "SignalWavesLaw" (141 : Nat) ({ cls := "SignalWavesModel", name := "look", desc := "()I" } : Jvm.MethodName)) ∈ lw_all := lw_g (lw_at lw_m13 89 rfl) rfl
theorem q3070 : (Jvm.Cond.methodLink "SignalWavesLaw" (145 : Nat) ({ cls := "SignalWavesModel", name := "keep", desc := "(I)I" } : Jvm.MethodName)) ∈ lw_all := lw_g (lw_at lw_m13 97 rfl) rfl
theorem q3074 : (Jvm.Cond.methodLink "SignalWavesLaw" (149 : Nat) ({ cls := "SignalWavesModel", name := "back", desc := "(I)I" } : Jvm.MethodName)) ∈ lw_all := lw_g (lw_at lw_m13 101 rfl) rfl
theorem q3078 : (Jvm.Cond.methodLink "SignalWavesLaw" (153 : Nat) ({ cls := "SignalWavesModel", name := "count", desc := "(I)I" } : Jvm.MethodName)) ∈ lw_all := lw_g (lw_at lw_m13 105 rfl) rfl

theorem q3148 : (Jvm.Cond.castable "[B" "java/lang/Object") ∈ lw_tbl := lw_at lw_m13 175 rfl
set_option maxRecDepth 100000

theorem q398 : (Jvm.Cond.sameMethod "[I" "java/lang/Object" "clone" "()Ljava/lang/Object;") ∈ lw_all := lw_g (lw_at lw_m2 65 rfl) rfl
set_option maxRecDepth 100000
theorem q401 : (Jvm.Cond.selects "[I" ({ cls := "[I", name := "clone", desc := "()Ljava/lang/Object;" } : Jvm.MethodName) ({ cls := "java/lang/Object", name := "clone", desc := "()Ljava/lang/Object;" } : Jvm.MethodName)) ∈ lw_all := lw_g (lw_at lw_m2 68 rfl) rfl
theorem q402 : (Jvm.Cond.castable "[I" "java/lang/Cloneable") ∈ lw_tbl := lw_at lw_m2 69 rfl
theorem q3145 : (Jvm.Cond.castable "[I" "java/lang/Object") ∈ lw_tbl := lw_at lw_m13 172 rfl

theorem q3146 : (Jvm.Cond.castable "[LSignalWaves$Wave;" "java/lang/Object") ∈ lw_tbl := lw_at lw_m13 173 rfl
set_option maxRecDepth 100000

theorem q3143 : (Jvm.Cond.sameMethod "[Ljava/lang/Object;" "java/lang/Object" "getClass" "()Ljava/lang/Class;") ∈ lw_all := lw_g (lw_at lw_m13 170 rfl) rfl
set_option maxRecDepth 100000
theorem q3144 : (Jvm.Cond.selects "[Ljava/lang/Object;" ({ cls := "java/lang/Object", name := "getClass", desc := "()Ljava/lang/Class;" } : Jvm.MethodName) ({ cls := "java/lang/Object", name := "getClass", desc := "()Ljava/lang/Class;" } : Jvm.MethodName)) ∈ lw_all := lw_g (lw_at lw_m13 171 rfl) rfl
theorem q3149 : (Jvm.Cond.castable "[Ljava/lang/Object;" "java/lang/Object") ∈ lw_tbl := lw_at lw_m13 176 rfl

theorem q3150 : (Jvm.Cond.castable "[Z" "java/lang/Object") ∈ lw_tbl := lw_at lw_m13 177 rfl
set_option maxRecDepth 100000

theorem q3147 : (Jvm.Cond.castable "[[I" "java/lang/Object") ∈ lw_tbl := lw_at lw_m13 174 rfl
set_option maxRecDepth 100000

theorem q434 : (Jvm.Cond.interfaceMethod "java/lang/Comparable" "java/lang/Comparable" "compareTo" "(Ljava/lang/Object;)I") ∈ lw_tbl := lw_at lw_m2 101 rfl
set_option maxRecDepth 100000
theorem q435 : (Jvm.Cond.declares ({ cls := "java/lang/Comparable", name := "compareTo", desc := "(Ljava/lang/Object;)I" } : Jvm.MethodName)) ∈ lw_tbl := lw_at lw_m2 102 rfl

theorem q134 : (Jvm.Cond.initialized "java/lang/Integer$IntegerCache") ∈ lw_all := lw_g (lw_at lw_m1 41 rfl) rfl
set_option maxRecDepth 100000
theorem q1352 : (Jvm.Cond.laysStatic "java/lang/Integer$IntegerCache" "high" "I") ∈ lw_tbl := lw_at lw_m6 59 rfl
theorem q1354 : (Jvm.Cond.laysStatic "java/lang/Integer$IntegerCache" "cache" "[Ljava/lang/Integer;") ∈ lw_tbl := lw_at lw_m6 61 rfl

theorem q136 : (Jvm.Cond.initialized "java/lang/System") ∈ lw_all := lw_g (lw_at lw_m1 43 rfl) rfl
set_option maxRecDepth 100000
theorem q1470 : (Jvm.Cond.static ({ cls := "java/lang/System", name := "arraycopy", desc := "(Ljava/lang/Object;ILjava/lang/Object;II)V" } : Jvm.MethodName)) ∈ lw_all := lw_g (lw_at lw_m6 177 rfl) rfl
theorem q1471 : (Jvm.Cond.native ({ cls := "java/lang/System", name := "arraycopy", desc := "(Ljava/lang/Object;ILjava/lang/Object;II)V" } : Jvm.MethodName)) ∈ lw_all := lw_g (lw_at lw_m6 178 rfl) rfl

theorem q1802 : (Jvm.Cond.interfaceMethod "java/util/Collection" "java/util/Collection" "iterator" "()Ljava/util/Iterator;") ∈ lw_tbl := lw_at lw_m8 29 rfl
set_option maxRecDepth 100000
theorem q1803 : (Jvm.Cond.declares ({ cls := "java/util/Collection", name := "iterator", desc := "()Ljava/util/Iterator;" } : Jvm.MethodName)) ∈ lw_tbl := lw_at lw_m8 30 rfl
theorem q2013 : (Jvm.Cond.interfaceMethod "java/util/Collection" "java/util/Collection" "toArray" "()[Ljava/lang/Object;") ∈ lw_tbl := lw_at lw_m9 0 rfl
theorem q2014 : (Jvm.Cond.declares ({ cls := "java/util/Collection", name := "toArray", desc := "()[Ljava/lang/Object;" } : Jvm.MethodName)) ∈ lw_tbl := lw_at lw_m9 1 rfl
theorem q2459 : (Jvm.Cond.publicMethod ({ cls := "java/util/Collection", name := "size", desc := "()I" } : Jvm.MethodName)) ∈ lw_tbl := lw_at lw_m10 206 rfl
theorem q2460 : (Jvm.Cond.declares ({ cls := "java/util/Collection", name := "size", desc := "()I" } : Jvm.MethodName)) ∈ lw_tbl := lw_at lw_m10 207 rfl
theorem q2483 : (Jvm.Cond.interfaceMethod "java/util/Collection" "java/lang/Object" "getClass" "()Ljava/lang/Class;") ∈ lw_tbl := lw_at lw_m10 230 rfl

theorem q631 : (Jvm.Cond.interfaceMethod "java/util/Comparator" "java/util/Comparator" "compare" "(Ljava/lang/Object;Ljava/lang/Object;)I") ∈ lw_tbl := lw_at lw_m3 58 rfl
set_option maxRecDepth 100000
theorem q632 : (Jvm.Cond.declares ({ cls := "java/util/Comparator", name := "compare", desc := "(Ljava/lang/Object;Ljava/lang/Object;)I" } : Jvm.MethodName)) ∈ lw_tbl := lw_at lw_m3 59 rfl

theorem q852 : (Jvm.Cond.interfaceMethod "java/util/Iterator" "java/util/Iterator" "hasNext" "()Z") ∈ lw_tbl := lw_at lw_m4 39 rfl
set_option maxRecDepth 100000
theorem q853 : (Jvm.Cond.declares ({ cls := "java/util/Iterator", name := "hasNext", desc := "()Z" } : Jvm.MethodName)) ∈ lw_tbl := lw_at lw_m4 40 rfl
theorem q890 : (Jvm.Cond.interfaceMethod "java/util/Iterator" "java/util/Iterator" "next" "()Ljava/lang/Object;") ∈ lw_tbl := lw_at lw_m4 77 rfl
theorem q891 : (Jvm.Cond.declares ({ cls := "java/util/Iterator", name := "next", desc := "()Ljava/lang/Object;" } : Jvm.MethodName)) ∈ lw_tbl := lw_at lw_m4 78 rfl

theorem q1382 : (Jvm.Cond.interfaceMethod "java/util/List" "java/util/List" "size" "()I") ∈ lw_tbl := lw_at lw_m6 89 rfl
set_option maxRecDepth 100000
theorem q1383 : (Jvm.Cond.declares ({ cls := "java/util/List", name := "size", desc := "()I" } : Jvm.MethodName)) ∈ lw_tbl := lw_at lw_m6 90 rfl
theorem q1394 : (Jvm.Cond.interfaceMethod "java/util/List" "java/util/List" "add" "(Ljava/lang/Object;)Z") ∈ lw_tbl := lw_at lw_m6 101 rfl
theorem q1395 : (Jvm.Cond.declares ({ cls := "java/util/List", name := "add", desc := "(Ljava/lang/Object;)Z" } : Jvm.MethodName)) ∈ lw_tbl := lw_at lw_m6 102 rfl
theorem q1486 : (Jvm.Cond.interfaceMethod "java/util/List" "java/util/List" "iterator" "()Ljava/util/Iterator;") ∈ lw_tbl := lw_at lw_m6 193 rfl
theorem q1487 : (Jvm.Cond.declares ({ cls := "java/util/List", name := "iterator", desc := "()Ljava/util/Iterator;" } : Jvm.MethodName)) ∈ lw_tbl := lw_at lw_m6 194 rfl
theorem q1651 : (Jvm.Cond.interfaceMethod "java/util/List" "java/util/List" "equals" "(Ljava/lang/Object;)Z") ∈ lw_tbl := lw_at lw_m7 118 rfl
theorem q1652 : (Jvm.Cond.declares ({ cls := "java/util/List", name := "equals", desc := "(Ljava/lang/Object;)Z" } : Jvm.MethodName)) ∈ lw_tbl := lw_at lw_m7 119 rfl
theorem q1729 : (Jvm.Cond.interfaceMethod "java/util/List" "java/util/List" "get" "(I)Ljava/lang/Object;") ∈ lw_tbl := lw_at lw_m7 196 rfl
theorem q1730 : (Jvm.Cond.declares ({ cls := "java/util/List", name := "get", desc := "(I)Ljava/lang/Object;" } : Jvm.MethodName)) ∈ lw_tbl := lw_at lw_m7 197 rfl
theorem q2004 : (Jvm.Cond.interfaceMethod "java/util/List" "java/util/List" "addAll" "(Ljava/util/Collection;)Z") ∈ lw_tbl := lw_at lw_m8 231 rfl
theorem q2005 : (Jvm.Cond.declares ({ cls := "java/util/List", name := "addAll", desc := "(Ljava/util/Collection;)Z" } : Jvm.MethodName)) ∈ lw_tbl := lw_at lw_m8 232 rfl
theorem q2538 : (Jvm.Cond.interfaceMethod "java/util/List" "java/util/List" "clear" "()V") ∈ lw_tbl := lw_at lw_m11 45 rfl
theorem q2539 : (Jvm.Cond.declares ({ cls := "java/util/List", name := "clear", desc := "()V" } : Jvm.MethodName)) ∈ lw_tbl := lw_at lw_m11 46 rfl

theorem q411 : (Jvm.Cond.publicMethod ({ cls := "java/util/Map", name := "put", desc := "(Ljava/lang/Object;Ljava/lang/Object;)Ljava/lang/Object;" } : Jvm.MethodName)) ∈ lw_tbl := lw_at lw_m2 78 rfl
set_option maxRecDepth 100000
theorem q412 : (Jvm.Cond.declares ({ cls := "java/util/Map", name := "put", desc := "(Ljava/lang/Object;Ljava/lang/Object;)Ljava/lang/Object;" } : Jvm.MethodName)) ∈ lw_tbl := lw_at lw_m2 79 rfl
theorem q741 : (Jvm.Cond.publicMethod ({ cls := "java/util/Map", name := "size", desc := "()I" } : Jvm.MethodName)) ∈ lw_tbl := lw_at lw_m3 168 rfl
theorem q742 : (Jvm.Cond.declares ({ cls := "java/util/Map", name := "size", desc := "()I" } : Jvm.MethodName)) ∈ lw_tbl := lw_at lw_m3 169 rfl

theorem q1002 : (Jvm.Cond.interfaceMethod "java/util/Map$Entry" "java/util/Map$Entry" "getKey" "()Ljava/lang/Object;") ∈ lw_tbl := lw_at lw_m4 189 rfl
set_option maxRecDepth 100000
theorem q1003 : (Jvm.Cond.declares ({ cls := "java/util/Map$Entry", name := "getKey", desc := "()Ljava/lang/Object;" } : Jvm.MethodName)) ∈ lw_tbl := lw_at lw_m4 190 rfl
theorem q1018 : (Jvm.Cond.interfaceMethod "java/util/Map$Entry" "java/util/Map$Entry" "getValue" "()Ljava/lang/Object;") ∈ lw_tbl := lw_at lw_m4 205 rfl
theorem q1019 : (Jvm.Cond.declares ({ cls := "java/util/Map$Entry", name := "getValue", desc := "()Ljava/lang/Object;" } : Jvm.MethodName)) ∈ lw_tbl := lw_at lw_m4 206 rfl

theorem q983 : (Jvm.Cond.interfaceMethod "java/util/NavigableMap" "java/util/NavigableMap" "pollFirstEntry" "()Ljava/util/Map$Entry;") ∈ lw_tbl := lw_at lw_m4 170 rfl
set_option maxRecDepth 100000
theorem q984 : (Jvm.Cond.declares ({ cls := "java/util/NavigableMap", name := "pollFirstEntry", desc := "()Ljava/util/Map$Entry;" } : Jvm.MethodName)) ∈ lw_tbl := lw_at lw_m4 171 rfl
theorem q1923 : (Jvm.Cond.interfaceMethod "java/util/NavigableMap" "java/util/NavigableMap" "navigableKeySet" "()Ljava/util/NavigableSet;") ∈ lw_tbl := lw_at lw_m8 150 rfl
theorem q1924 : (Jvm.Cond.declares ({ cls := "java/util/NavigableMap", name := "navigableKeySet", desc := "()Ljava/util/NavigableSet;" } : Jvm.MethodName)) ∈ lw_tbl := lw_at lw_m8 151 rfl
theorem q2180 : (Jvm.Cond.interfaceMethod "java/util/NavigableMap" "java/util/NavigableMap" "floorKey" "(Ljava/lang/Object;)Ljava/lang/Object;") ∈ lw_tbl := lw_at lw_m9 167 rfl
theorem q2181 : (Jvm.Cond.declares ({ cls := "java/util/NavigableMap", name := "floorKey", desc := "(Ljava/lang/Object;)Ljava/lang/Object;" } : Jvm.MethodName)) ∈ lw_tbl := lw_at lw_m9 168 rfl
theorem q2379 : (Jvm.Cond.interfaceMethod "java/util/NavigableMap" "java/util/NavigableMap" "headMap" "(Ljava/lang/Object;Z)Ljava/util/NavigableMap;") ∈ lw_tbl := lw_at lw_m10 126 rfl
theorem q2380 : (Jvm.Cond.declares ({ cls := "java/util/NavigableMap", name := "headMap", desc := "(Ljava/lang/Object;Z)Ljava/util/NavigableMap;" } : Jvm.MethodName)) ∈ lw_tbl := lw_at lw_m10 127 rfl

theorem q1949 : (Jvm.Cond.interfaceMethod "java/util/NavigableSet" "java/util/NavigableSet" "iterator" "()Ljava/util/Iterator;") ∈ lw_tbl := lw_at lw_m8 176 rfl
set_option maxRecDepth 100000
theorem q1950 : (Jvm.Cond.declares ({ cls := "java/util/NavigableSet", name := "iterator", desc := "()Ljava/util/Iterator;" } : Jvm.MethodName)) ∈ lw_tbl := lw_at lw_m8 177 rfl

theorem q784 : (Jvm.Cond.interfaceMethod "java/util/Set" "java/util/Set" "size" "()I") ∈ lw_tbl := lw_at lw_m3 211 rfl
set_option maxRecDepth 100000
theorem q785 : (Jvm.Cond.declares ({ cls := "java/util/Set", name := "size", desc := "()I" } : Jvm.MethodName)) ∈ lw_tbl := lw_at lw_m3 212 rfl

theorem q2072 : (Jvm.Cond.publicMethod ({ cls := "java/util/SortedMap", name := "lastKey", desc := "()Ljava/lang/Object;" } : Jvm.MethodName)) ∈ lw_tbl := lw_at lw_m9 59 rfl
set_option maxRecDepth 100000
theorem q2073 : (Jvm.Cond.declares ({ cls := "java/util/SortedMap", name := "lastKey", desc := "()Ljava/lang/Object;" } : Jvm.MethodName)) ∈ lw_tbl := lw_at lw_m9 60 rfl

theorem q115 : (Jvm.Cond.initialized "jdk/internal/misc/UnsafeConstants") ∈ lw_all := lw_g (lw_at lw_m1 22 rfl) rfl
set_option maxRecDepth 100000
theorem q528 : (Jvm.Cond.laysStatic "jdk/internal/misc/UnsafeConstants" "BIG_ENDIAN" "Z") ∈ lw_tbl := lw_at lw_m2 195 rfl

theorem q309 : (Jvm.Cond.arrayClass Jvm.ClassFile.FieldType.int) ∈ lw_all := lw_g (lw_at lw_m1 216 rfl) rfl
set_option maxRecDepth 100000
theorem q1062 : (Jvm.Cond.arrayOver (Jvm.ClassFile.FieldType.object "SignalWaves$Wave")) ∈ lw_tbl := lw_at lw_m5 9 rfl
theorem q1064 : (Jvm.Cond.arrayOver (Jvm.ClassFile.FieldType.array Jvm.ClassFile.FieldType.int)) ∈ lw_tbl := lw_at lw_m5 11 rfl
theorem q1110 : (Jvm.Cond.arrayClass Jvm.ClassFile.FieldType.byte) ∈ lw_all := lw_g (lw_at lw_m5 57 rfl) rfl
theorem q1466 : (Jvm.Cond.arrayOver (Jvm.ClassFile.FieldType.object "java/lang/Object")) ∈ lw_tbl := lw_at lw_m6 173 rfl
theorem q2757 : (Jvm.Cond.arrayClass Jvm.ClassFile.FieldType.boolean) ∈ lw_all := lw_g (lw_at lw_m12 24 rfl) rfl

/-! java/util/AbstractMap -/
set_option maxRecDepth 100000
def RJ0 : String := "java/util/AbstractMap"
abbrev cJ0_init : ByteArray := prog_42_method_1_code
def yJ0_init : MethodName := ⟨RJ0, "<init>", "()V"⟩
theorem dJ0_init_0 : decode cJ0_init 0 = .ok (.aload_n 0, 1) := by decide +kernel
theorem dJ0_init_1 : decode cJ0_init 1 = .ok (.invokespecial 1, 3) := by decide +kernel
theorem dJ0_init_4 : decode cJ0_init 4 = .ok (.return_, 1) := by decide +kernel
theorem q98 : (Jvm.Cond.initialized "java/util/AbstractMap") ∈ lw_all := lw_g (lw_at lw_m1 5 rfl) rfl
theorem q186 : (Jvm.Cond.instanceMethod ({ cls := "java/util/AbstractMap", name := "<init>", desc := "()V" } : Jvm.MethodName)) ∈ lw_all := lw_g (lw_at lw_m1 93 rfl) rfl
theorem q187 : (Jvm.Cond.code ({ cls := "java/util/AbstractMap", name := "<init>", desc := "()V" } : Jvm.MethodName) prog_42_method_1_code (1 : Nat) (Option.none : Option Jvm.ClassFile.FieldType)) ∈ lw_all := lw_g (lw_at lw_m1 94 rfl) rfl
theorem q188 : (Jvm.Cond.methodLink "java/util/AbstractMap" (1 : Nat) ({ cls := "java/lang/Object", name := "<init>", desc := "()V" } : Jvm.MethodName)) ∈ lw_all := lw_g (lw_at lw_m1 95 rfl) rfl
theorem q214 : (Jvm.Cond.soleField "java/util/AbstractMap" "keySet") ∈ lw_all := lw_g (lw_at lw_m1 121 rfl) rfl
theorem q216 : (Jvm.Cond.soleField "java/util/AbstractMap" "values") ∈ lw_all := lw_g (lw_at lw_m1 123 rfl) rfl
theorem q756 : (Jvm.Cond.declares ({ cls := "java/util/AbstractMap", name := "entrySet", desc := "()Ljava/util/Set;" } : Jvm.MethodName)) ∈ lw_tbl := lw_at lw_m3 183 rfl

/-! java/util/AbstractCollection -/
set_option maxRecDepth 100000
def RJ2 : String := "java/util/AbstractCollection"
abbrev cJ2_init : ByteArray := prog_40_method_1_code
def yJ2_init : MethodName := ⟨RJ2, "<init>", "()V"⟩
theorem dJ2_init_0 : decode cJ2_init 0 = .ok (.aload_n 0, 1) := by decide +kernel
theorem dJ2_init_1 : decode cJ2_init 1 = .ok (.invokespecial 1, 3) := by decide +kernel
theorem dJ2_init_4 : decode cJ2_init 4 = .ok (.return_, 1) := by decide +kernel
abbrev cJ2_toArray : ByteArray := prog_40_method_6_code
def yJ2_toArray : MethodName := ⟨RJ2, "toArray", "()[Ljava/lang/Object;"⟩
def dkwJ2_toArray_3 : List UInt8 := [176]
abbrev dktJ2_toArray_3 : List UInt8 := dkwJ2_toArray_3 ++ []
def dkwJ2_toArray_2 : List UInt8 := [132, 3, 1, 167, 255, 223, 44, 185, 0, 17, 1, 0, 153, 0, 11, 43, 44, 184, 0, 37, 167, 0, 4, 43]
abbrev dktJ2_toArray_2 : List UInt8 := dkwJ2_toArray_2 ++ dktJ2_toArray_3
def dkwJ2_toArray_1 : List UInt8 := [185, 0, 17, 1, 0, 154, 0, 9, 43, 29, 184, 0, 31, 176, 43, 29, 44, 185, 0, 23, 1, 0, 83]
abbrev dktJ2_toArray_1 : List UInt8 := dkwJ2_toArray_1 ++ dktJ2_toArray_2
def dkwJ2_toArray_0 : List UInt8 := [42, 182, 0, 7, 189, 0, 2, 76, 42, 182, 0, 13, 77, 3, 62, 29, 43, 190, 162, 0, 33, 44]
abbrev dktJ2_toArray_0 : List UInt8 := dkwJ2_toArray_0 ++ dktJ2_toArray_1
theorem dksJ2_toArray_0 : cJ2_toArray.data.toList.drop 0 = dktJ2_toArray_0 := by decide +kernel
theorem dksJ2_toArray_1 : cJ2_toArray.data.toList.drop 22 = dktJ2_toArray_1 := dk_seg dksJ2_toArray_0 22 rfl rfl
theorem dksJ2_toArray_2 : cJ2_toArray.data.toList.drop 45 = dktJ2_toArray_2 := dk_seg dksJ2_toArray_1 23 rfl rfl
theorem dksJ2_toArray_3 : cJ2_toArray.data.toList.drop 69 = dktJ2_toArray_3 := dk_seg dksJ2_toArray_2 24 rfl rfl
theorem dJ2_toArray_0 : decode cJ2_toArray 0 = .ok (.aload_n 0, 1) := dk_42 (dk_at dksJ2_toArray_0 0 rfl rfl)
theorem dJ2_toArray_1 : decode cJ2_toArray 1 = .ok (.invokevirtual 7, 3) := dk_182 0 7 (dk_at dksJ2_toArray_0 1 rfl rfl)
theorem dJ2_toArray_4 : decode cJ2_toArray 4 = .ok (.anewarray 2, 3) := dk_189 0 2 (dk_at dksJ2_toArray_0 4 rfl rfl)
theorem dJ2_toArray_7 : decode cJ2_toArray 7 = .ok (.astore_n 1, 1) := dk_76 (dk_at dksJ2_toArray_0 7 rfl rfl)
theorem dJ2_toArray_8 : decode cJ2_toArray 8 = .ok (.aload_n 0, 1) := dk_42 (dk_at dksJ2_toArray_0 8 rfl rfl)
theorem dJ2_toArray_9 : decode cJ2_toArray 9 = .ok (.invokevirtual 13, 3) := dk_182 0 13 (dk_at dksJ2_toArray_0 9 rfl rfl)
theorem dJ2_toArray_12 : decode cJ2_toArray 12 = .ok (.astore_n 2, 1) := dk_77 (dk_at dksJ2_toArray_0 12 rfl rfl)
theorem dJ2_toArray_13 : decode cJ2_toArray 13 = .ok (.iconst 0, 1) := dk_3 (dk_at dksJ2_toArray_0 13 rfl rfl)
theorem dJ2_toArray_14 : decode cJ2_toArray 14 = .ok (.istore_n 3, 1) := dk_62 (dk_at dksJ2_toArray_0 14 rfl rfl)
theorem dJ2_toArray_15 : decode cJ2_toArray 15 = .ok (.iload_n 3, 1) := dk_29 (dk_at dksJ2_toArray_0 15 rfl rfl)
theorem dJ2_toArray_16 : decode cJ2_toArray 16 = .ok (.aload_n 1, 1) := dk_43 (dk_at dksJ2_toArray_0 16 rfl rfl)
theorem dJ2_toArray_17 : decode cJ2_toArray 17 = .ok (.arraylength, 1) := dk_190 (dk_at dksJ2_toArray_0 17 rfl rfl)
theorem dJ2_toArray_18 : decode cJ2_toArray 18 = .ok (.if_icmp .ge 33, 3) := dk_162 0 33 (dk_at dksJ2_toArray_0 18 rfl rfl)
theorem dJ2_toArray_21 : decode cJ2_toArray 21 = .ok (.aload_n 2, 1) := dk_44 (dk_at dksJ2_toArray_0 21 rfl rfl)
theorem dJ2_toArray_22 : decode cJ2_toArray 22 = .ok (.invokeinterface 17 1, 5) := by decide +kernel
theorem dJ2_toArray_27 : decode cJ2_toArray 27 = .ok (.ifCond .ne 9, 3) := dk_154 0 9 (dk_at dksJ2_toArray_1 5 rfl rfl)
theorem dJ2_toArray_30 : decode cJ2_toArray 30 = .ok (.aload_n 1, 1) := dk_43 (dk_at dksJ2_toArray_1 8 rfl rfl)
theorem dJ2_toArray_31 : decode cJ2_toArray 31 = .ok (.iload_n 3, 1) := dk_29 (dk_at dksJ2_toArray_1 9 rfl rfl)
theorem dJ2_toArray_32 : decode cJ2_toArray 32 = .ok (.invokestatic 31, 3) := dk_184 0 31 (dk_at dksJ2_toArray_1 10 rfl rfl)
theorem dJ2_toArray_35 : decode cJ2_toArray 35 = .ok (.areturn, 1) := dk_176 (dk_at dksJ2_toArray_1 13 rfl rfl)
theorem dJ2_toArray_36 : decode cJ2_toArray 36 = .ok (.aload_n 1, 1) := dk_43 (dk_at dksJ2_toArray_1 14 rfl rfl)
theorem dJ2_toArray_37 : decode cJ2_toArray 37 = .ok (.iload_n 3, 1) := dk_29 (dk_at dksJ2_toArray_1 15 rfl rfl)
theorem dJ2_toArray_38 : decode cJ2_toArray 38 = .ok (.aload_n 2, 1) := dk_44 (dk_at dksJ2_toArray_1 16 rfl rfl)
theorem dJ2_toArray_39 : decode cJ2_toArray 39 = .ok (.invokeinterface 23 1, 5) := by decide +kernel
theorem dJ2_toArray_44 : decode cJ2_toArray 44 = .ok (.aastore, 1) := dk_83 (dk_at dksJ2_toArray_1 22 rfl rfl)
theorem dJ2_toArray_45 : decode cJ2_toArray 45 = .ok (.iinc 3 1, 3) := dk_132 3 1 (dk_at dksJ2_toArray_2 0 rfl rfl)
theorem dJ2_toArray_48 : decode cJ2_toArray 48 = .ok (.goto (-33), 3) := dk_167 255 223 (dk_at dksJ2_toArray_2 3 rfl rfl)
theorem dJ2_toArray_51 : decode cJ2_toArray 51 = .ok (.aload_n 2, 1) := dk_44 (dk_at dksJ2_toArray_2 6 rfl rfl)
theorem dJ2_toArray_52 : decode cJ2_toArray 52 = .ok (.invokeinterface 17 1, 5) := by decide +kernel
theorem dJ2_toArray_57 : decode cJ2_toArray 57 = .ok (.ifCond .eq 11, 3) := dk_153 0 11 (dk_at dksJ2_toArray_2 12 rfl rfl)
theorem dJ2_toArray_60 : decode cJ2_toArray 60 = .ok (.aload_n 1, 1) := dk_43 (dk_at dksJ2_toArray_2 15 rfl rfl)
theorem dJ2_toArray_61 : decode cJ2_toArray 61 = .ok (.aload_n 2, 1) := dk_44 (dk_at dksJ2_toArray_2 16 rfl rfl)
theorem dJ2_toArray_62 : decode cJ2_toArray 62 = .ok (.invokestatic 37, 3) := dk_184 0 37 (dk_at dksJ2_toArray_2 17 rfl rfl)
theorem dJ2_toArray_65 : decode cJ2_toArray 65 = .ok (.goto 4, 3) := dk_167 0 4 (dk_at dksJ2_toArray_2 20 rfl rfl)
theorem dJ2_toArray_68 : decode cJ2_toArray 68 = .ok (.aload_n 1, 1) := dk_43 (dk_at dksJ2_toArray_2 23 rfl rfl)
theorem dJ2_toArray_69 : decode cJ2_toArray 69 = .ok (.areturn, 1) := dk_176 (dk_at dksJ2_toArray_3 0 rfl rfl)
abbrev cJ2_finishToArray : ByteArray := prog_40_method_8_code
def yJ2_finishToArray : MethodName := ⟨RJ2, "finishToArray", "([Ljava/lang/Object;Ljava/util/Iterator;)[Ljava/lang/Object;"⟩
def dkwJ2_finishToArray_2 : List UInt8 := [167, 255, 213, 29, 28, 160, 0, 7, 42, 167, 0, 8, 42, 29, 184, 0, 31, 176]
abbrev dktJ2_finishToArray_2 : List UInt8 := dkwJ2_finishToArray_2 ++ []
def dkwJ2_finishToArray_1 : List UInt8 := [4, 96, 184, 0, 64, 61, 42, 28, 184, 0, 31, 75, 42, 29, 132, 3, 1, 43, 185, 0, 23, 1, 0, 83]
abbrev dktJ2_finishToArray_1 : List UInt8 := dkwJ2_finishToArray_1 ++ dktJ2_finishToArray_2
def dkwJ2_finishToArray_0 : List UInt8 := [42, 190, 61, 28, 62, 43, 185, 0, 17, 1, 0, 153, 0, 40, 29, 28, 160, 0, 20, 28, 4, 28, 4, 122]
abbrev dktJ2_finishToArray_0 : List UInt8 := dkwJ2_finishToArray_0 ++ dktJ2_finishToArray_1
theorem dksJ2_finishToArray_0 : cJ2_finishToArray.data.toList.drop 0 = dktJ2_finishToArray_0 := by decide +kernel
theorem dksJ2_finishToArray_1 : cJ2_finishToArray.data.toList.drop 24 = dktJ2_finishToArray_1 := dk_seg dksJ2_finishToArray_0 24 rfl rfl
theorem dksJ2_finishToArray_2 : cJ2_finishToArray.data.toList.drop 48 = dktJ2_finishToArray_2 := dk_seg dksJ2_finishToArray_1 24 rfl rfl
theorem dJ2_finishToArray_0 : decode cJ2_finishToArray 0 = .ok (.aload_n 0, 1) := dk_42 (dk_at dksJ2_finishToArray_0 0 rfl rfl)
theorem dJ2_finishToArray_1 : decode cJ2_finishToArray 1 = .ok (.arraylength, 1) := dk_190 (dk_at dksJ2_finishToArray_0 1 rfl rfl)
theorem dJ2_finishToArray_2 : decode cJ2_finishToArray 2 = .ok (.istore_n 2, 1) := dk_61 (dk_at dksJ2_finishToArray_0 2 rfl rfl)
theorem dJ2_finishToArray_3 : decode cJ2_finishToArray 3 = .ok (.iload_n 2, 1) := dk_28 (dk_at dksJ2_finishToArray_0 3 rfl rfl)
theorem dJ2_finishToArray_4 : decode cJ2_finishToArray 4 = .ok (.istore_n 3, 1) := dk_62 (dk_at dksJ2_finishToArray_0 4 rfl rfl)
theorem dJ2_finishToArray_5 : decode cJ2_finishToArray 5 = .ok (.aload_n 1, 1) := dk_43 (dk_at dksJ2_finishToArray_0 5 rfl rfl)
theorem dJ2_finishToArray_6 : decode cJ2_finishToArray 6 = .ok (.invokeinterface 17 1, 5) := by decide +kernel
theorem dJ2_finishToArray_11 : decode cJ2_finishToArray 11 = .ok (.ifCond .eq 40, 3) := dk_153 0 40 (dk_at dksJ2_finishToArray_0 11 rfl rfl)
theorem dJ2_finishToArray_14 : decode cJ2_finishToArray 14 = .ok (.iload_n 3, 1) := dk_29 (dk_at dksJ2_finishToArray_0 14 rfl rfl)
theorem dJ2_finishToArray_15 : decode cJ2_finishToArray 15 = .ok (.iload_n 2, 1) := dk_28 (dk_at dksJ2_finishToArray_0 15 rfl rfl)
theorem dJ2_finishToArray_16 : decode cJ2_finishToArray 16 = .ok (.if_icmp .ne 20, 3) := dk_160 0 20 (dk_at dksJ2_finishToArray_0 16 rfl rfl)
theorem dJ2_finishToArray_19 : decode cJ2_finishToArray 19 = .ok (.iload_n 2, 1) := dk_28 (dk_at dksJ2_finishToArray_0 19 rfl rfl)
theorem dJ2_finishToArray_20 : decode cJ2_finishToArray 20 = .ok (.iconst 1, 1) := dk_4 (dk_at dksJ2_finishToArray_0 20 rfl rfl)
theorem dJ2_finishToArray_21 : decode cJ2_finishToArray 21 = .ok (.iload_n 2, 1) := dk_28 (dk_at dksJ2_finishToArray_0 21 rfl rfl)
theorem dJ2_finishToArray_22 : decode cJ2_finishToArray 22 = .ok (.iconst 1, 1) := dk_4 (dk_at dksJ2_finishToArray_0 22 rfl rfl)
theorem dJ2_finishToArray_23 : decode cJ2_finishToArray 23 = .ok (.ishr, 1) := dk_122 (dk_at dksJ2_finishToArray_0 23 rfl rfl)
theorem dJ2_finishToArray_24 : decode cJ2_finishToArray 24 = .ok (.iconst 1, 1) := dk_4 (dk_at dksJ2_finishToArray_1 0 rfl rfl)
theorem dJ2_finishToArray_25 : decode cJ2_finishToArray 25 = .ok (.iadd, 1) := dk_96 (dk_at dksJ2_finishToArray_1 1 rfl rfl)
theorem dJ2_finishToArray_26 : decode cJ2_finishToArray 26 = .ok (.invokestatic 64, 3) := dk_184 0 64 (dk_at dksJ2_finishToArray_1 2 rfl rfl)
theorem dJ2_finishToArray_29 : decode cJ2_finishToArray 29 = .ok (.istore_n 2, 1) := dk_61 (dk_at dksJ2_finishToArray_1 5 rfl rfl)
theorem dJ2_finishToArray_30 : decode cJ2_finishToArray 30 = .ok (.aload_n 0, 1) := dk_42 (dk_at dksJ2_finishToArray_1 6 rfl rfl)
theorem dJ2_finishToArray_31 : decode cJ2_finishToArray 31 = .ok (.iload_n 2, 1) := dk_28 (dk_at dksJ2_finishToArray_1 7 rfl rfl)
theorem dJ2_finishToArray_32 : decode cJ2_finishToArray 32 = .ok (.invokestatic 31, 3) := dk_184 0 31 (dk_at dksJ2_finishToArray_1 8 rfl rfl)
theorem dJ2_finishToArray_35 : decode cJ2_finishToArray 35 = .ok (.astore_n 0, 1) := dk_75 (dk_at dksJ2_finishToArray_1 11 rfl rfl)
theorem dJ2_finishToArray_36 : decode cJ2_finishToArray 36 = .ok (.aload_n 0, 1) := dk_42 (dk_at dksJ2_finishToArray_1 12 rfl rfl)
theorem dJ2_finishToArray_37 : decode cJ2_finishToArray 37 = .ok (.iload_n 3, 1) := dk_29 (dk_at dksJ2_finishToArray_1 13 rfl rfl)
theorem dJ2_finishToArray_38 : decode cJ2_finishToArray 38 = .ok (.iinc 3 1, 3) := dk_132 3 1 (dk_at dksJ2_finishToArray_1 14 rfl rfl)
theorem dJ2_finishToArray_41 : decode cJ2_finishToArray 41 = .ok (.aload_n 1, 1) := dk_43 (dk_at dksJ2_finishToArray_1 17 rfl rfl)
theorem dJ2_finishToArray_42 : decode cJ2_finishToArray 42 = .ok (.invokeinterface 23 1, 5) := by decide +kernel
theorem dJ2_finishToArray_47 : decode cJ2_finishToArray 47 = .ok (.aastore, 1) := dk_83 (dk_at dksJ2_finishToArray_1 23 rfl rfl)
theorem dJ2_finishToArray_48 : decode cJ2_finishToArray 48 = .ok (.goto (-43), 3) := dk_167 255 213 (dk_at dksJ2_finishToArray_2 0 rfl rfl)
theorem dJ2_finishToArray_51 : decode cJ2_finishToArray 51 = .ok (.iload_n 3, 1) := dk_29 (dk_at dksJ2_finishToArray_2 3 rfl rfl)
theorem dJ2_finishToArray_52 : decode cJ2_finishToArray 52 = .ok (.iload_n 2, 1) := dk_28 (dk_at dksJ2_finishToArray_2 4 rfl rfl)
theorem dJ2_finishToArray_53 : decode cJ2_finishToArray 53 = .ok (.if_icmp .ne 7, 3) := dk_160 0 7 (dk_at dksJ2_finishToArray_2 5 rfl rfl)
theorem dJ2_finishToArray_56 : decode cJ2_finishToArray 56 = .ok (.aload_n 0, 1) := dk_42 (dk_at dksJ2_finishToArray_2 8 rfl rfl)
theorem dJ2_finishToArray_57 : decode cJ2_finishToArray 57 = .ok (.goto 8, 3) := dk_167 0 8 (dk_at dksJ2_finishToArray_2 9 rfl rfl)
theorem dJ2_finishToArray_60 : decode cJ2_finishToArray 60 = .ok (.aload_n 0, 1) := dk_42 (dk_at dksJ2_finishToArray_2 12 rfl rfl)
theorem dJ2_finishToArray_61 : decode cJ2_finishToArray 61 = .ok (.iload_n 3, 1) := dk_29 (dk_at dksJ2_finishToArray_2 13 rfl rfl)
theorem dJ2_finishToArray_62 : decode cJ2_finishToArray 62 = .ok (.invokestatic 31, 3) := dk_184 0 31 (dk_at dksJ2_finishToArray_2 14 rfl rfl)
theorem dJ2_finishToArray_65 : decode cJ2_finishToArray 65 = .ok (.areturn, 1) := dk_176 (dk_at dksJ2_finishToArray_2 17 rfl rfl)
abbrev cJ2_isEmpty : ByteArray := prog_40_method_4_code
def yJ2_isEmpty : MethodName := ⟨RJ2, "isEmpty", "()Z"⟩
def dkwJ2_isEmpty_0 : List UInt8 := [42, 182, 0, 7, 154, 0, 7, 4, 167, 0, 4, 3, 172]
abbrev dktJ2_isEmpty_0 : List UInt8 := dkwJ2_isEmpty_0 ++ []
theorem dksJ2_isEmpty_0 : cJ2_isEmpty.data.toList.drop 0 = dktJ2_isEmpty_0 := by decide +kernel
theorem dJ2_isEmpty_0 : decode cJ2_isEmpty 0 = .ok (.aload_n 0, 1) := dk_42 (dk_at dksJ2_isEmpty_0 0 rfl rfl)
theorem dJ2_isEmpty_1 : decode cJ2_isEmpty 1 = .ok (.invokevirtual 7, 3) := dk_182 0 7 (dk_at dksJ2_isEmpty_0 1 rfl rfl)
theorem dJ2_isEmpty_4 : decode cJ2_isEmpty 4 = .ok (.ifCond .ne 7, 3) := dk_154 0 7 (dk_at dksJ2_isEmpty_0 4 rfl rfl)
theorem dJ2_isEmpty_7 : decode cJ2_isEmpty 7 = .ok (.iconst 1, 1) := dk_4 (dk_at dksJ2_isEmpty_0 7 rfl rfl)
theorem dJ2_isEmpty_8 : decode cJ2_isEmpty 8 = .ok (.goto 4, 3) := dk_167 0 4 (dk_at dksJ2_isEmpty_0 8 rfl rfl)
theorem dJ2_isEmpty_11 : decode cJ2_isEmpty 11 = .ok (.iconst 0, 1) := dk_3 (dk_at dksJ2_isEmpty_0 11 rfl rfl)
theorem dJ2_isEmpty_12 : decode cJ2_isEmpty 12 = .ok (.ireturn, 1) := dk_172 (dk_at dksJ2_isEmpty_0 12 rfl rfl)
theorem q100 : (Jvm.Cond.initialized "java/util/AbstractCollection") ∈ lw_all := lw_g (lw_at lw_m1 7 rfl) rfl
theorem q258 : (Jvm.Cond.instanceMethod ({ cls := "java/util/AbstractCollection", name := "<init>", desc := "()V" } : Jvm.MethodName)) ∈ lw_all := lw_g (lw_at lw_m1 165 rfl) rfl
theorem q259 : (Jvm.Cond.code ({ cls := "java/util/AbstractCollection", name := "<init>", desc := "()V" } : Jvm.MethodName) prog_40_method_1_code (1 : Nat) (Option.none : Option Jvm.ClassFile.FieldType)) ∈ lw_all := lw_g (lw_at lw_m1 166 rfl) rfl
theorem q260 : (Jvm.Cond.methodLink "java/util/AbstractCollection" (1 : Nat) ({ cls := "java/lang/Object", name := "<init>", desc := "()V" } : Jvm.MethodName)) ∈ lw_all := lw_g (lw_at lw_m1 167 rfl) rfl
theorem q795 : (Jvm.Cond.declares ({ cls := "java/util/AbstractCollection", name := "iterator", desc := "()Ljava/util/Iterator;" } : Jvm.MethodName)) ∈ lw_tbl := lw_at lw_m3 222 rfl
theorem q2028 : (Jvm.Cond.instanceMethod ({ cls := "java/util/AbstractCollection", name := "toArray", desc := "()[Ljava/lang/Object;" } : Jvm.MethodName)) ∈ lw_all := lw_g (lw_at lw_m9 15 rfl) rfl
theorem q2029 : (Jvm.Cond.publicMethod ({ cls := "java/util/AbstractCollection", name := "toArray", desc := "()[Ljava/lang/Object;" } : Jvm.MethodName)) ∈ lw_tbl := lw_at lw_m9 16 rfl
theorem q2030 : (Jvm.Cond.code ({ cls := "java/util/AbstractCollection", name := "toArray", desc := "()[Ljava/lang/Object;" } : Jvm.MethodName) prog_40_method_6_code (4 : Nat) (Option.some (Jvm.ClassFile.FieldType.array (Jvm.ClassFile.FieldType.object "java/lang/Object")))) ∈ lw_all := lw_g (lw_at lw_m9 17 rfl) rfl
theorem q2031 : (Jvm.Cond.methodLink "java/util/AbstractCollection" (7 : Nat) ({ cls := "java/util/AbstractCollection", name := "size", desc := "()I" } : Jvm.MethodName)) ∈ lw_all := lw_g (lw_at lw_m9 18 rfl) rfl
theorem q2032 : (Jvm.Cond.declares ({ cls := "java/util/AbstractCollection", name := "size", desc := "()I" } : Jvm.MethodName)) ∈ lw_tbl := lw_at lw_m9 19 rfl
theorem q2033 : (Jvm.Cond.sameMethod "java/util/AbstractCollection" "java/util/AbstractCollection" "size" "()I") ∈ lw_all := lw_g (lw_at lw_m9 20 rfl) rfl
theorem q2045 : (Jvm.Cond.classLink "java/util/AbstractCollection" (2 : Nat) "java/lang/Object") ∈ lw_all := lw_g (lw_at lw_m9 32 rfl) rfl
theorem q2046 : (Jvm.Cond.methodLink "java/util/AbstractCollection" (13 : Nat) ({ cls := "java/util/AbstractCollection", name := "iterator", desc := "()Ljava/util/Iterator;" } : Jvm.MethodName)) ∈ lw_all := lw_g (lw_at lw_m9 33 rfl) rfl
theorem q2047 : (Jvm.Cond.interfaceEntry "java/util/AbstractCollection" (17 : Nat)) ∈ lw_tbl := lw_at lw_m9 34 rfl
theorem q2048 : (Jvm.Cond.methodLink "java/util/AbstractCollection" (17 : Nat) ({ cls := "java/util/Iterator", name := "hasNext", desc := "()Z" } : Jvm.MethodName)) ∈ lw_all := lw_g (lw_at lw_m9 35 rfl) rfl
theorem q2049 : (Jvm.Cond.methodLink "java/util/AbstractCollection" (31 : Nat) ({ cls := "java/util/Arrays", name := "copyOf", desc := "([Ljava/lang/Object;I)[Ljava/lang/Object;" } : Jvm.MethodName)) ∈ lw_all := lw_g (lw_at lw_m9 36 rfl) rfl
theorem q2050 : (Jvm.Cond.interfaceEntry "java/util/AbstractCollection" (23 : Nat)) ∈ lw_tbl := lw_at lw_m9 37 rfl
theorem q2051 : (Jvm.Cond.methodLink "java/util/AbstractCollection" (23 : Nat) ({ cls := "java/util/Iterator", name := "next", desc := "()Ljava/lang/Object;" } : Jvm.MethodName)) ∈ lw_all := lw_g (lw_at lw_m9 38 rfl) rfl
theorem q2052 : (Jvm.Cond.methodLink "java/util/AbstractCollection" (37 : Nat) ({ cls := "java/util/AbstractCollection", name := "finishToArray", desc := "([Ljava/lang/Object;Ljava/util/Iterator;)[Ljava/lang/Object;" } : Jvm.MethodName)) ∈ lw_all := lw_g (lw_at lw_m9 39 rfl) rfl
theorem q2053 : (Jvm.Cond.static ({ cls := "java/util/AbstractCollection", name := "finishToArray", desc := "([Ljava/lang/Object;Ljava/util/Iterator;)[Ljava/lang/Object;" } : Jvm.MethodName)) ∈ lw_all := lw_g (lw_at lw_m9 40 rfl) rfl
theorem q2054 : (Jvm.Cond.code ({ cls := "java/util/AbstractCollection", name := "finishToArray", desc := "([Ljava/lang/Object;Ljava/util/Iterator;)[Ljava/lang/Object;" } : Jvm.MethodName) prog_40_method_8_code (4 : Nat) (Option.some (Jvm.ClassFile.FieldType.array (Jvm.ClassFile.FieldType.object "java/lang/Object")))) ∈ lw_all := lw_g (lw_at lw_m9 41 rfl) rfl
theorem q2055 : (Jvm.Cond.methodLink "java/util/AbstractCollection" (64 : Nat) ({ cls := "jdk/internal/util/ArraysSupport", name := "newLength", desc := "(III)I" } : Jvm.MethodName)) ∈ lw_all := lw_g (lw_at lw_m9 42 rfl) rfl
theorem q2342 : (Jvm.Cond.declares ({ cls := "java/util/AbstractCollection", name := "isEmpty", desc := "()Z" } : Jvm.MethodName)) ∈ lw_tbl := lw_at lw_m10 89 rfl
theorem q2344 : (Jvm.Cond.instanceMethod ({ cls := "java/util/AbstractCollection", name := "isEmpty", desc := "()Z" } : Jvm.MethodName)) ∈ lw_all := lw_g (lw_at lw_m10 91 rfl) rfl
theorem q2345 : (Jvm.Cond.code ({ cls := "java/util/AbstractCollection", name := "isEmpty", desc := "()Z" } : Jvm.MethodName) prog_40_method_4_code (1 : Nat) (Option.some Jvm.ClassFile.FieldType.boolean)) ∈ lw_all := lw_g (lw_at lw_m10 92 rfl) rfl
theorem q3094 : (Jvm.Cond.sameMethod "java/util/AbstractCollection" "java/util/AbstractCollection" "iterator" "()Ljava/util/Iterator;") ∈ lw_all := lw_g (lw_at lw_m13 121 rfl) rfl

/-! java/util/AbstractList -/
set_option maxRecDepth 100000
def RJ3 : String := "java/util/AbstractList"
abbrev cJ3_init : ByteArray := prog_41_method_1_code
def yJ3_init : MethodName := ⟨RJ3, "<init>", "()V"⟩
def dkwJ3_init_0 : List UInt8 := [42, 183, 0, 1, 42, 3, 181, 0, 7, 177]
abbrev dktJ3_init_0 : List UInt8 := dkwJ3_init_0 ++ []
theorem dksJ3_init_0 : cJ3_init.data.toList.drop 0 = dktJ3_init_0 := by decide +kernel
theorem dJ3_init_0 : decode cJ3_init 0 = .ok (.aload_n 0, 1) := dk_42 (dk_at dksJ3_init_0 0 rfl rfl)
theorem dJ3_init_1 : decode cJ3_init 1 = .ok (.invokespecial 1, 3) := dk_183 0 1 (dk_at dksJ3_init_0 1 rfl rfl)
theorem dJ3_init_4 : decode cJ3_init 4 = .ok (.aload_n 0, 1) := dk_42 (dk_at dksJ3_init_0 4 rfl rfl)
theorem dJ3_init_5 : decode cJ3_init 5 = .ok (.iconst 0, 1) := dk_3 (dk_at dksJ3_init_0 5 rfl rfl)
theorem dJ3_init_6 : decode cJ3_init 6 = .ok (.putfield 7, 3) := dk_181 0 7 (dk_at dksJ3_init_0 6 rfl rfl)
theorem dJ3_init_9 : decode cJ3_init 9 = .ok (.return_, 1) := dk_177 (dk_at dksJ3_init_0 9 rfl rfl)
theorem q101 : (Jvm.Cond.initialized "java/util/AbstractList") ∈ lw_all := lw_g (lw_at lw_m1 8 rfl) rfl
theorem q255 : (Jvm.Cond.instanceMethod ({ cls := "java/util/AbstractList", name := "<init>", desc := "()V" } : Jvm.MethodName)) ∈ lw_all := lw_g (lw_at lw_m1 162 rfl) rfl
theorem q256 : (Jvm.Cond.code ({ cls := "java/util/AbstractList", name := "<init>", desc := "()V" } : Jvm.MethodName) prog_41_method_1_code (1 : Nat) (Option.none : Option Jvm.ClassFile.FieldType)) ∈ lw_all := lw_g (lw_at lw_m1 163 rfl) rfl
theorem q257 : (Jvm.Cond.methodLink "java/util/AbstractList" (1 : Nat) ({ cls := "java/util/AbstractCollection", name := "<init>", desc := "()V" } : Jvm.MethodName)) ∈ lw_all := lw_g (lw_at lw_m1 164 rfl) rfl
theorem q267 : (Jvm.Cond.fieldLink "java/util/AbstractList" (7 : Nat) "java/util/AbstractList" "modCount" "I") ∈ lw_all := lw_g (lw_at lw_m1 174 rfl) rfl
theorem q276 : (Jvm.Cond.soleField "java/util/AbstractList" "modCount") ∈ lw_all := lw_g (lw_at lw_m1 183 rfl) rfl

/-! java/util/ArrayList -/
set_option maxRecDepth 100000
def RJ4 : String := "java/util/ArrayList"
def TJ4 : u_T := fun k => match k with
  | 0 => ("java/util/AbstractList", "modCount", "I", false)
  | 1 => ("java/util/ArrayList", "elementData", "[Ljava/lang/Object;", false)
  | _ => ("java/util/ArrayList", "size", "I", false)
def tyJ4 : Nat → FieldType := fun k => match k with
  | 0 => .int
  | 1 => .array (.object "java/lang/Object")
  | _ => .int
abbrev wsJ40 : List Cond := u_ws RJ4 TJ4 3
theorem nmJ4 : ∀ a, a < 3 → ∀ b, b < 3 → a ≠ b → (TJ4 a).2.1 ≠ (TJ4 b).2.1 := by decide +kernel
theorem tyJ4_ok : ∀ k, k < 3 → parseFieldDescriptor (TJ4 k).2.2.1 = some (tyJ4 k) := by decide +kernel
abbrev cJ4_init : ByteArray := prog_47_method_2_code
def yJ4_init : MethodName := ⟨RJ4, "<init>", "()V"⟩
def dkwJ4_init_0 : List UInt8 := [42, 183, 0, 1, 42, 178, 0, 39, 181, 0, 9, 177]
abbrev dktJ4_init_0 : List UInt8 := dkwJ4_init_0 ++ []
theorem dksJ4_init_0 : cJ4_init.data.toList.drop 0 = dktJ4_init_0 := by decide +kernel
theorem dJ4_init_0 : decode cJ4_init 0 = .ok (.aload_n 0, 1) := dk_42 (dk_at dksJ4_init_0 0 rfl rfl)
theorem dJ4_init_1 : decode cJ4_init 1 = .ok (.invokespecial 1, 3) := dk_183 0 1 (dk_at dksJ4_init_0 1 rfl rfl)
theorem dJ4_init_4 : decode cJ4_init 4 = .ok (.aload_n 0, 1) := dk_42 (dk_at dksJ4_init_0 4 rfl rfl)
theorem dJ4_init_5 : decode cJ4_init 5 = .ok (.getstatic 39, 3) := dk_178 0 39 (dk_at dksJ4_init_0 5 rfl rfl)
theorem dJ4_init_8 : decode cJ4_init 8 = .ok (.putfield 9, 3) := dk_181 0 9 (dk_at dksJ4_init_0 8 rfl rfl)
theorem dJ4_init_11 : decode cJ4_init 11 = .ok (.return_, 1) := dk_177 (dk_at dksJ4_init_0 11 rfl rfl)
abbrev cJ4_size : ByteArray := prog_47_method_8_code
def yJ4_size : MethodName := ⟨RJ4, "size", "()I"⟩
theorem dJ4_size_0 : decode cJ4_size 0 = .ok (.aload_n 0, 1) := by decide +kernel
theorem dJ4_size_1 : decode cJ4_size 1 = .ok (.getfield 48, 3) := by decide +kernel
theorem dJ4_size_4 : decode cJ4_size 4 = .ok (.ireturn, 1) := by decide +kernel
abbrev cJ4_add : ByteArray := prog_47_method_25_code
def yJ4_add : MethodName := ⟨RJ4, "add", "(Ljava/lang/Object;)Z"⟩
def dkwJ4_add_1 : List UInt8 := [172]
abbrev dktJ4_add_1 : List UInt8 := dkwJ4_add_1 ++ []
def dkwJ4_add_0 : List UInt8 := [42, 89, 180, 0, 63, 4, 96, 181, 0, 63, 42, 43, 42, 180, 0, 9, 42, 180, 0, 48, 182, 0, 131, 4]
abbrev dktJ4_add_0 : List UInt8 := dkwJ4_add_0 ++ dktJ4_add_1
theorem dksJ4_add_0 : cJ4_add.data.toList.drop 0 = dktJ4_add_0 := by decide +kernel
theorem dksJ4_add_1 : cJ4_add.data.toList.drop 24 = dktJ4_add_1 := dk_seg dksJ4_add_0 24 rfl rfl
theorem dJ4_add_0 : decode cJ4_add 0 = .ok (.aload_n 0, 1) := dk_42 (dk_at dksJ4_add_0 0 rfl rfl)
theorem dJ4_add_1 : decode cJ4_add 1 = .ok (.dup, 1) := dk_89 (dk_at dksJ4_add_0 1 rfl rfl)
theorem dJ4_add_2 : decode cJ4_add 2 = .ok (.getfield 63, 3) := dk_180 0 63 (dk_at dksJ4_add_0 2 rfl rfl)
theorem dJ4_add_5 : decode cJ4_add 5 = .ok (.iconst 1, 1) := dk_4 (dk_at dksJ4_add_0 5 rfl rfl)
theorem dJ4_add_6 : decode cJ4_add 6 = .ok (.iadd, 1) := dk_96 (dk_at dksJ4_add_0 6 rfl rfl)
theorem dJ4_add_7 : decode cJ4_add 7 = .ok (.putfield 63, 3) := dk_181 0 63 (dk_at dksJ4_add_0 7 rfl rfl)
theorem dJ4_add_10 : decode cJ4_add 10 = .ok (.aload_n 0, 1) := dk_42 (dk_at dksJ4_add_0 10 rfl rfl)
theorem dJ4_add_11 : decode cJ4_add 11 = .ok (.aload_n 1, 1) := dk_43 (dk_at dksJ4_add_0 11 rfl rfl)
theorem dJ4_add_12 : decode cJ4_add 12 = .ok (.aload_n 0, 1) := dk_42 (dk_at dksJ4_add_0 12 rfl rfl)
theorem dJ4_add_13 : decode cJ4_add 13 = .ok (.getfield 9, 3) := dk_180 0 9 (dk_at dksJ4_add_0 13 rfl rfl)
theorem dJ4_add_16 : decode cJ4_add 16 = .ok (.aload_n 0, 1) := dk_42 (dk_at dksJ4_add_0 16 rfl rfl)
theorem dJ4_add_17 : decode cJ4_add 17 = .ok (.getfield 48, 3) := dk_180 0 48 (dk_at dksJ4_add_0 17 rfl rfl)
theorem dJ4_add_20 : decode cJ4_add 20 = .ok (.invokevirtual 131, 3) := dk_182 0 131 (dk_at dksJ4_add_0 20 rfl rfl)
theorem dJ4_add_23 : decode cJ4_add 23 = .ok (.iconst 1, 1) := dk_4 (dk_at dksJ4_add_0 23 rfl rfl)
theorem dJ4_add_24 : decode cJ4_add 24 = .ok (.ireturn, 1) := dk_172 (dk_at dksJ4_add_1 0 rfl rfl)
abbrev cJ4_add_2 : ByteArray := prog_47_method_24_code
def yJ4_add_2 : MethodName := ⟨RJ4, "add", "(Ljava/lang/Object;[Ljava/lang/Object;I)V"⟩
def dkwJ4_add_2_0 : List UInt8 := [29, 44, 190, 160, 0, 8, 42, 182, 0, 129, 77, 44, 29, 43, 83, 42, 29, 4, 96, 181, 0, 48, 177]
abbrev dktJ4_add_2_0 : List UInt8 := dkwJ4_add_2_0 ++ []
theorem dksJ4_add_2_0 : cJ4_add_2.data.toList.drop 0 = dktJ4_add_2_0 := by decide +kernel
theorem dJ4_add_2_0 : decode cJ4_add_2 0 = .ok (.iload_n 3, 1) := dk_29 (dk_at dksJ4_add_2_0 0 rfl rfl)
theorem dJ4_add_2_1 : decode cJ4_add_2 1 = .ok (.aload_n 2, 1) := dk_44 (dk_at dksJ4_add_2_0 1 rfl rfl)
theorem dJ4_add_2_2 : decode cJ4_add_2 2 = .ok (.arraylength, 1) := dk_190 (dk_at dksJ4_add_2_0 2 rfl rfl)
theorem dJ4_add_2_3 : decode cJ4_add_2 3 = .ok (.if_icmp .ne 8, 3) := dk_160 0 8 (dk_at dksJ4_add_2_0 3 rfl rfl)
theorem dJ4_add_2_6 : decode cJ4_add_2 6 = .ok (.aload_n 0, 1) := dk_42 (dk_at dksJ4_add_2_0 6 rfl rfl)
theorem dJ4_add_2_7 : decode cJ4_add_2 7 = .ok (.invokevirtual 129, 3) := dk_182 0 129 (dk_at dksJ4_add_2_0 7 rfl rfl)
theorem dJ4_add_2_10 : decode cJ4_add_2 10 = .ok (.astore_n 2, 1) := dk_77 (dk_at dksJ4_add_2_0 10 rfl rfl)
theorem dJ4_add_2_11 : decode cJ4_add_2 11 = .ok (.aload_n 2, 1) := dk_44 (dk_at dksJ4_add_2_0 11 rfl rfl)
theorem dJ4_add_2_12 : decode cJ4_add_2 12 = .ok (.iload_n 3, 1) := dk_29 (dk_at dksJ4_add_2_0 12 rfl rfl)
theorem dJ4_add_2_13 : decode cJ4_add_2 13 = .ok (.aload_n 1, 1) := dk_43 (dk_at dksJ4_add_2_0 13 rfl rfl)
theorem dJ4_add_2_14 : decode cJ4_add_2 14 = .ok (.aastore, 1) := dk_83 (dk_at dksJ4_add_2_0 14 rfl rfl)
theorem dJ4_add_2_15 : decode cJ4_add_2 15 = .ok (.aload_n 0, 1) := dk_42 (dk_at dksJ4_add_2_0 15 rfl rfl)
theorem dJ4_add_2_16 : decode cJ4_add_2 16 = .ok (.iload_n 3, 1) := dk_29 (dk_at dksJ4_add_2_0 16 rfl rfl)
theorem dJ4_add_2_17 : decode cJ4_add_2 17 = .ok (.iconst 1, 1) := dk_4 (dk_at dksJ4_add_2_0 17 rfl rfl)
theorem dJ4_add_2_18 : decode cJ4_add_2 18 = .ok (.iadd, 1) := dk_96 (dk_at dksJ4_add_2_0 18 rfl rfl)
theorem dJ4_add_2_19 : decode cJ4_add_2 19 = .ok (.putfield 48, 3) := dk_181 0 48 (dk_at dksJ4_add_2_0 19 rfl rfl)
theorem dJ4_add_2_22 : decode cJ4_add_2 22 = .ok (.return_, 1) := dk_177 (dk_at dksJ4_add_2_0 22 rfl rfl)
abbrev cJ4_grow : ByteArray := prog_47_method_7_code
def yJ4_grow : MethodName := ⟨RJ4, "grow", "()[Ljava/lang/Object;"⟩
def dkwJ4_grow_0 : List UInt8 := [42, 42, 180, 0, 48, 4, 96, 182, 0, 69, 176]
abbrev dktJ4_grow_0 : List UInt8 := dkwJ4_grow_0 ++ []
theorem dksJ4_grow_0 : cJ4_grow.data.toList.drop 0 = dktJ4_grow_0 := by decide +kernel
theorem dJ4_grow_0 : decode cJ4_grow 0 = .ok (.aload_n 0, 1) := dk_42 (dk_at dksJ4_grow_0 0 rfl rfl)
theorem dJ4_grow_1 : decode cJ4_grow 1 = .ok (.aload_n 0, 1) := dk_42 (dk_at dksJ4_grow_0 1 rfl rfl)
theorem dJ4_grow_2 : decode cJ4_grow 2 = .ok (.getfield 48, 3) := dk_180 0 48 (dk_at dksJ4_grow_0 2 rfl rfl)
theorem dJ4_grow_5 : decode cJ4_grow 5 = .ok (.iconst 1, 1) := dk_4 (dk_at dksJ4_grow_0 5 rfl rfl)
theorem dJ4_grow_6 : decode cJ4_grow 6 = .ok (.iadd, 1) := dk_96 (dk_at dksJ4_grow_0 6 rfl rfl)
theorem dJ4_grow_7 : decode cJ4_grow 7 = .ok (.invokevirtual 69, 3) := dk_182 0 69 (dk_at dksJ4_grow_0 7 rfl rfl)
theorem dJ4_grow_10 : decode cJ4_grow 10 = .ok (.areturn, 1) := dk_176 (dk_at dksJ4_grow_0 10 rfl rfl)
abbrev cJ4_grow_2 : ByteArray := prog_47_method_6_code
def yJ4_grow_2 : MethodName := ⟨RJ4, "grow", "(I)[Ljava/lang/Object;"⟩
def dkwJ4_grow_2_2 : List UInt8 := [27, 184, 0, 79, 189, 0, 7, 90, 181, 0, 9, 176]
abbrev dktJ4_grow_2_2 : List UInt8 := dkwJ4_grow_2_2 ++ []
def dkwJ4_grow_2_1 : List UInt8 := [28, 4, 122, 184, 0, 73, 62, 42, 42, 180, 0, 9, 29, 184, 0, 66, 90, 181, 0, 9, 176, 42, 16, 10]
abbrev dktJ4_grow_2_1 : List UInt8 := dkwJ4_grow_2_1 ++ dktJ4_grow_2_2
def dkwJ4_grow_2_0 : List UInt8 := [42, 180, 0, 9, 190, 61, 28, 157, 0, 13, 42, 180, 0, 9, 178, 0, 39, 165, 0, 28, 28, 27, 28, 100]
abbrev dktJ4_grow_2_0 : List UInt8 := dkwJ4_grow_2_0 ++ dktJ4_grow_2_1
theorem dksJ4_grow_2_0 : cJ4_grow_2.data.toList.drop 0 = dktJ4_grow_2_0 := by decide +kernel
theorem dksJ4_grow_2_1 : cJ4_grow_2.data.toList.drop 24 = dktJ4_grow_2_1 := dk_seg dksJ4_grow_2_0 24 rfl rfl
theorem dksJ4_grow_2_2 : cJ4_grow_2.data.toList.drop 48 = dktJ4_grow_2_2 := dk_seg dksJ4_grow_2_1 24 rfl rfl
theorem dJ4_grow_2_0 : decode cJ4_grow_2 0 = .ok (.aload_n 0, 1) := dk_42 (dk_at dksJ4_grow_2_0 0 rfl rfl)
theorem dJ4_grow_2_1 : decode cJ4_grow_2 1 = .ok (.getfield 9, 3) := dk_180 0 9 (dk_at dksJ4_grow_2_0 1 rfl rfl)
theorem dJ4_grow_2_4 : decode cJ4_grow_2 4 = .ok (.arraylength, 1) := dk_190 (dk_at dksJ4_grow_2_0 4 rfl rfl)
theorem dJ4_grow_2_5 : decode cJ4_grow_2 5 = .ok (.istore_n 2, 1) := dk_61 (dk_at dksJ4_grow_2_0 5 rfl rfl)
theorem dJ4_grow_2_6 : decode cJ4_grow_2 6 = .ok (.iload_n 2, 1) := dk_28 (dk_at dksJ4_grow_2_0 6 rfl rfl)
theorem dJ4_grow_2_7 : decode cJ4_grow_2 7 = .ok (.ifCond .gt 13, 3) := dk_157 0 13 (dk_at dksJ4_grow_2_0 7 rfl rfl)
theorem dJ4_grow_2_10 : decode cJ4_grow_2 10 = .ok (.aload_n 0, 1) := dk_42 (dk_at dksJ4_grow_2_0 10 rfl rfl)
theorem dJ4_grow_2_11 : decode cJ4_grow_2 11 = .ok (.getfield 9, 3) := dk_180 0 9 (dk_at dksJ4_grow_2_0 11 rfl rfl)
theorem dJ4_grow_2_14 : decode cJ4_grow_2 14 = .ok (.getstatic 39, 3) := dk_178 0 39 (dk_at dksJ4_grow_2_0 14 rfl rfl)
theorem dJ4_grow_2_17 : decode cJ4_grow_2 17 = .ok (.if_acmp .eq 28, 3) := dk_165 0 28 (dk_at dksJ4_grow_2_0 17 rfl rfl)
theorem dJ4_grow_2_20 : decode cJ4_grow_2 20 = .ok (.iload_n 2, 1) := dk_28 (dk_at dksJ4_grow_2_0 20 rfl rfl)
theorem dJ4_grow_2_21 : decode cJ4_grow_2 21 = .ok (.iload_n 1, 1) := dk_27 (dk_at dksJ4_grow_2_0 21 rfl rfl)
theorem dJ4_grow_2_22 : decode cJ4_grow_2 22 = .ok (.iload_n 2, 1) := dk_28 (dk_at dksJ4_grow_2_0 22 rfl rfl)
theorem dJ4_grow_2_23 : decode cJ4_grow_2 23 = .ok (.isub, 1) := dk_100 (dk_at dksJ4_grow_2_0 23 rfl rfl)
theorem dJ4_grow_2_24 : decode cJ4_grow_2 24 = .ok (.iload_n 2, 1) := dk_28 (dk_at dksJ4_grow_2_1 0 rfl rfl)
theorem dJ4_grow_2_25 : decode cJ4_grow_2 25 = .ok (.iconst 1, 1) := dk_4 (dk_at dksJ4_grow_2_1 1 rfl rfl)
theorem dJ4_grow_2_26 : decode cJ4_grow_2 26 = .ok (.ishr, 1) := dk_122 (dk_at dksJ4_grow_2_1 2 rfl rfl)
theorem dJ4_grow_2_27 : decode cJ4_grow_2 27 = .ok (.invokestatic 73, 3) := dk_184 0 73 (dk_at dksJ4_grow_2_1 3 rfl rfl)
theorem dJ4_grow_2_30 : decode cJ4_grow_2 30 = .ok (.istore_n 3, 1) := dk_62 (dk_at dksJ4_grow_2_1 6 rfl rfl)
theorem dJ4_grow_2_31 : decode cJ4_grow_2 31 = .ok (.aload_n 0, 1) := dk_42 (dk_at dksJ4_grow_2_1 7 rfl rfl)
theorem dJ4_grow_2_32 : decode cJ4_grow_2 32 = .ok (.aload_n 0, 1) := dk_42 (dk_at dksJ4_grow_2_1 8 rfl rfl)
theorem dJ4_grow_2_33 : decode cJ4_grow_2 33 = .ok (.getfield 9, 3) := dk_180 0 9 (dk_at dksJ4_grow_2_1 9 rfl rfl)
theorem dJ4_grow_2_36 : decode cJ4_grow_2 36 = .ok (.iload_n 3, 1) := dk_29 (dk_at dksJ4_grow_2_1 12 rfl rfl)
theorem dJ4_grow_2_37 : decode cJ4_grow_2 37 = .ok (.invokestatic 66, 3) := dk_184 0 66 (dk_at dksJ4_grow_2_1 13 rfl rfl)
theorem dJ4_grow_2_40 : decode cJ4_grow_2 40 = .ok (.dup_x1, 1) := dk_90 (dk_at dksJ4_grow_2_1 16 rfl rfl)
theorem dJ4_grow_2_41 : decode cJ4_grow_2 41 = .ok (.putfield 9, 3) := dk_181 0 9 (dk_at dksJ4_grow_2_1 17 rfl rfl)
theorem dJ4_grow_2_44 : decode cJ4_grow_2 44 = .ok (.areturn, 1) := dk_176 (dk_at dksJ4_grow_2_1 20 rfl rfl)
theorem dJ4_grow_2_45 : decode cJ4_grow_2 45 = .ok (.aload_n 0, 1) := dk_42 (dk_at dksJ4_grow_2_1 21 rfl rfl)
theorem dJ4_grow_2_46 : decode cJ4_grow_2 46 = .ok (.bipush 10, 2) := dk_16 10 (dk_at dksJ4_grow_2_1 22 rfl rfl)
theorem dJ4_grow_2_48 : decode cJ4_grow_2 48 = .ok (.iload_n 1, 1) := dk_27 (dk_at dksJ4_grow_2_2 0 rfl rfl)
theorem dJ4_grow_2_49 : decode cJ4_grow_2 49 = .ok (.invokestatic 79, 3) := dk_184 0 79 (dk_at dksJ4_grow_2_2 1 rfl rfl)
theorem dJ4_grow_2_52 : decode cJ4_grow_2 52 = .ok (.anewarray 7, 3) := dk_189 0 7 (dk_at dksJ4_grow_2_2 4 rfl rfl)
theorem dJ4_grow_2_55 : decode cJ4_grow_2 55 = .ok (.dup_x1, 1) := dk_90 (dk_at dksJ4_grow_2_2 7 rfl rfl)
theorem dJ4_grow_2_56 : decode cJ4_grow_2 56 = .ok (.putfield 9, 3) := dk_181 0 9 (dk_at dksJ4_grow_2_2 8 rfl rfl)
theorem dJ4_grow_2_59 : decode cJ4_grow_2 59 = .ok (.areturn, 1) := dk_176 (dk_at dksJ4_grow_2_2 11 rfl rfl)
abbrev cJ4_iterator : ByteArray := prog_47_method_55_code
def yJ4_iterator : MethodName := ⟨RJ4, "iterator", "()Ljava/util/Iterator;"⟩
def dkwJ4_iterator_0 : List UInt8 := [187, 1, 11, 89, 42, 183, 1, 13, 176]
abbrev dktJ4_iterator_0 : List UInt8 := dkwJ4_iterator_0 ++ []
theorem dksJ4_iterator_0 : cJ4_iterator.data.toList.drop 0 = dktJ4_iterator_0 := by decide +kernel
theorem dJ4_iterator_0 : decode cJ4_iterator 0 = .ok (.new 267, 3) := dk_187 1 11 (dk_at dksJ4_iterator_0 0 rfl rfl)
theorem dJ4_iterator_3 : decode cJ4_iterator 3 = .ok (.dup, 1) := dk_89 (dk_at dksJ4_iterator_0 3 rfl rfl)
theorem dJ4_iterator_4 : decode cJ4_iterator 4 = .ok (.aload_n 0, 1) := dk_42 (dk_at dksJ4_iterator_0 4 rfl rfl)
theorem dJ4_iterator_5 : decode cJ4_iterator 5 = .ok (.invokespecial 269, 3) := dk_183 1 13 (dk_at dksJ4_iterator_0 5 rfl rfl)
theorem dJ4_iterator_8 : decode cJ4_iterator 8 = .ok (.areturn, 1) := dk_176 (dk_at dksJ4_iterator_0 8 rfl rfl)
abbrev cJ4_equals : ByteArray := prog_47_method_32_code
def yJ4_equals : MethodName := ⟨RJ4, "equals", "(Ljava/lang/Object;)Z"⟩
def dkwJ4_equals_2 : List UInt8 := [3, 42, 180, 0, 48, 182, 0, 154, 62, 42, 28, 182, 0, 158, 29, 172]
abbrev dktJ4_equals_2 : List UInt8 := dkwJ4_equals_2 ++ []
def dkwJ4_equals_1 : List UInt8 := [182, 0, 111, 18, 10, 166, 0, 14, 42, 43, 192, 0, 10, 182, 0, 150, 167, 0, 16, 42, 43, 192, 0, 148]
abbrev dktJ4_equals_1 : List UInt8 := dkwJ4_equals_1 ++ dktJ4_equals_2
def dkwJ4_equals_0 : List UInt8 := [43, 42, 166, 0, 5, 4, 172, 43, 193, 0, 148, 154, 0, 5, 3, 172, 42, 180, 0, 63, 61, 43]
abbrev dktJ4_equals_0 : List UInt8 := dkwJ4_equals_0 ++ dktJ4_equals_1
theorem dksJ4_equals_0 : cJ4_equals.data.toList.drop 0 = dktJ4_equals_0 := by decide +kernel
theorem dksJ4_equals_1 : cJ4_equals.data.toList.drop 22 = dktJ4_equals_1 := dk_seg dksJ4_equals_0 22 rfl rfl
theorem dksJ4_equals_2 : cJ4_equals.data.toList.drop 46 = dktJ4_equals_2 := dk_seg dksJ4_equals_1 24 rfl rfl
theorem dJ4_equals_0 : decode cJ4_equals 0 = .ok (.aload_n 1, 1) := dk_43 (dk_at dksJ4_equals_0 0 rfl rfl)
theorem dJ4_equals_1 : decode cJ4_equals 1 = .ok (.aload_n 0, 1) := dk_42 (dk_at dksJ4_equals_0 1 rfl rfl)
theorem dJ4_equals_2 : decode cJ4_equals 2 = .ok (.if_acmp .ne 5, 3) := dk_166 0 5 (dk_at dksJ4_equals_0 2 rfl rfl)
theorem dJ4_equals_5 : decode cJ4_equals 5 = .ok (.iconst 1, 1) := dk_4 (dk_at dksJ4_equals_0 5 rfl rfl)
theorem dJ4_equals_6 : decode cJ4_equals 6 = .ok (.ireturn, 1) := dk_172 (dk_at dksJ4_equals_0 6 rfl rfl)
theorem dJ4_equals_7 : decode cJ4_equals 7 = .ok (.aload_n 1, 1) := dk_43 (dk_at dksJ4_equals_0 7 rfl rfl)
theorem dJ4_equals_8 : decode cJ4_equals 8 = .ok (.instanceof 148, 3) := dk_193 0 148 (dk_at dksJ4_equals_0 8 rfl rfl)
theorem dJ4_equals_11 : decode cJ4_equals 11 = .ok (.ifCond .ne 5, 3) := dk_154 0 5 (dk_at dksJ4_equals_0 11 rfl rfl)
theorem dJ4_equals_14 : decode cJ4_equals 14 = .ok (.iconst 0, 1) := dk_3 (dk_at dksJ4_equals_0 14 rfl rfl)
theorem dJ4_equals_15 : decode cJ4_equals 15 = .ok (.ireturn, 1) := dk_172 (dk_at dksJ4_equals_0 15 rfl rfl)
theorem dJ4_equals_16 : decode cJ4_equals 16 = .ok (.aload_n 0, 1) := dk_42 (dk_at dksJ4_equals_0 16 rfl rfl)
theorem dJ4_equals_17 : decode cJ4_equals 17 = .ok (.getfield 63, 3) := dk_180 0 63 (dk_at dksJ4_equals_0 17 rfl rfl)
theorem dJ4_equals_20 : decode cJ4_equals 20 = .ok (.istore_n 2, 1) := dk_61 (dk_at dksJ4_equals_0 20 rfl rfl)
theorem dJ4_equals_21 : decode cJ4_equals 21 = .ok (.aload_n 1, 1) := dk_43 (dk_at dksJ4_equals_0 21 rfl rfl)
theorem dJ4_equals_22 : decode cJ4_equals 22 = .ok (.invokevirtual 111, 3) := dk_182 0 111 (dk_at dksJ4_equals_1 0 rfl rfl)
theorem dJ4_equals_25 : decode cJ4_equals 25 = .ok (.ldc 10, 2) := dk_18 10 (dk_at dksJ4_equals_1 3 rfl rfl)
theorem dJ4_equals_27 : decode cJ4_equals 27 = .ok (.if_acmp .ne 14, 3) := dk_166 0 14 (dk_at dksJ4_equals_1 5 rfl rfl)
theorem dJ4_equals_30 : decode cJ4_equals 30 = .ok (.aload_n 0, 1) := dk_42 (dk_at dksJ4_equals_1 8 rfl rfl)
theorem dJ4_equals_31 : decode cJ4_equals 31 = .ok (.aload_n 1, 1) := dk_43 (dk_at dksJ4_equals_1 9 rfl rfl)
theorem dJ4_equals_32 : decode cJ4_equals 32 = .ok (.checkcast 10, 3) := dk_192 0 10 (dk_at dksJ4_equals_1 10 rfl rfl)
theorem dJ4_equals_35 : decode cJ4_equals 35 = .ok (.invokevirtual 150, 3) := dk_182 0 150 (dk_at dksJ4_equals_1 13 rfl rfl)
theorem dJ4_equals_38 : decode cJ4_equals 38 = .ok (.goto 16, 3) := dk_167 0 16 (dk_at dksJ4_equals_1 16 rfl rfl)
theorem dJ4_equals_41 : decode cJ4_equals 41 = .ok (.aload_n 0, 1) := dk_42 (dk_at dksJ4_equals_1 19 rfl rfl)
theorem dJ4_equals_42 : decode cJ4_equals 42 = .ok (.aload_n 1, 1) := dk_43 (dk_at dksJ4_equals_1 20 rfl rfl)
theorem dJ4_equals_43 : decode cJ4_equals 43 = .ok (.checkcast 148, 3) := dk_192 0 148 (dk_at dksJ4_equals_1 21 rfl rfl)
theorem dJ4_equals_46 : decode cJ4_equals 46 = .ok (.iconst 0, 1) := dk_3 (dk_at dksJ4_equals_2 0 rfl rfl)
theorem dJ4_equals_47 : decode cJ4_equals 47 = .ok (.aload_n 0, 1) := dk_42 (dk_at dksJ4_equals_2 1 rfl rfl)
theorem dJ4_equals_48 : decode cJ4_equals 48 = .ok (.getfield 48, 3) := dk_180 0 48 (dk_at dksJ4_equals_2 2 rfl rfl)
theorem dJ4_equals_51 : decode cJ4_equals 51 = .ok (.invokevirtual 154, 3) := dk_182 0 154 (dk_at dksJ4_equals_2 5 rfl rfl)
theorem dJ4_equals_54 : decode cJ4_equals 54 = .ok (.istore_n 3, 1) := dk_62 (dk_at dksJ4_equals_2 8 rfl rfl)
theorem dJ4_equals_55 : decode cJ4_equals 55 = .ok (.aload_n 0, 1) := dk_42 (dk_at dksJ4_equals_2 9 rfl rfl)
theorem dJ4_equals_56 : decode cJ4_equals 56 = .ok (.iload_n 2, 1) := dk_28 (dk_at dksJ4_equals_2 10 rfl rfl)
theorem dJ4_equals_57 : decode cJ4_equals 57 = .ok (.invokevirtual 158, 3) := dk_182 0 158 (dk_at dksJ4_equals_2 11 rfl rfl)
theorem dJ4_equals_60 : decode cJ4_equals 60 = .ok (.iload_n 3, 1) := dk_29 (dk_at dksJ4_equals_2 14 rfl rfl)
theorem dJ4_equals_61 : decode cJ4_equals 61 = .ok (.ireturn, 1) := dk_172 (dk_at dksJ4_equals_2 15 rfl rfl)
abbrev cJ4_equalsArrayList : ByteArray := prog_47_method_34_code
def yJ4_equalsArrayList : MethodName := ⟨RJ4, "equalsArrayList", "(Ljava/util/ArrayList;)Z"⟩
def dkwJ4_equalsArrayList_4 : List UInt8 := [132, 7, 1, 167, 255, 225, 43, 28, 182, 0, 158, 21, 4, 172]
abbrev dktJ4_equalsArrayList_4 : List UInt8 := dkwJ4_equalsArrayList_4 ++ []
def dkwJ4_equalsArrayList_3 : List UInt8 := [25, 6, 21, 7, 50, 25, 5, 21, 7, 50, 184, 0, 177, 154, 0, 9, 3, 54, 4, 167, 0, 9]
abbrev dktJ4_equalsArrayList_3 : List UInt8 := dkwJ4_equalsArrayList_3 ++ dktJ4_equalsArrayList_4
def dkwJ4_equalsArrayList_2 : List UInt8 := [29, 25, 5, 190, 164, 0, 11, 187, 0, 161, 89, 183, 0, 163, 191, 3, 54, 7, 21, 7, 29, 162, 0, 31]
abbrev dktJ4_equalsArrayList_2 : List UInt8 := dkwJ4_equalsArrayList_2 ++ dktJ4_equalsArrayList_3
def dkwJ4_equalsArrayList_1 : List UInt8 := [54, 4, 153, 0, 74, 43, 180, 0, 9, 58, 5, 42, 180, 0, 9, 58, 6, 29, 25, 6, 190, 163, 0, 10]
abbrev dktJ4_equalsArrayList_1 : List UInt8 := dkwJ4_equalsArrayList_1 ++ dktJ4_equalsArrayList_2
def dkwJ4_equalsArrayList_0 : List UInt8 := [43, 180, 0, 63, 61, 42, 180, 0, 48, 62, 29, 43, 180, 0, 48, 160, 0, 7, 4, 167, 0, 4, 3, 89]
abbrev dktJ4_equalsArrayList_0 : List UInt8 := dkwJ4_equalsArrayList_0 ++ dktJ4_equalsArrayList_1
theorem dksJ4_equalsArrayList_0 : cJ4_equalsArrayList.data.toList.drop 0 = dktJ4_equalsArrayList_0 := by decide +kernel
theorem dksJ4_equalsArrayList_1 : cJ4_equalsArrayList.data.toList.drop 24 = dktJ4_equalsArrayList_1 := dk_seg dksJ4_equalsArrayList_0 24 rfl rfl
theorem dksJ4_equalsArrayList_2 : cJ4_equalsArrayList.data.toList.drop 48 = dktJ4_equalsArrayList_2 := dk_seg dksJ4_equalsArrayList_1 24 rfl rfl
theorem dksJ4_equalsArrayList_3 : cJ4_equalsArrayList.data.toList.drop 72 = dktJ4_equalsArrayList_3 := dk_seg dksJ4_equalsArrayList_2 24 rfl rfl
theorem dksJ4_equalsArrayList_4 : cJ4_equalsArrayList.data.toList.drop 94 = dktJ4_equalsArrayList_4 := dk_seg dksJ4_equalsArrayList_3 22 rfl rfl
theorem dJ4_equalsArrayList_0 : decode cJ4_equalsArrayList 0 = .ok (.aload_n 1, 1) := dk_43 (dk_at dksJ4_equalsArrayList_0 0 rfl rfl)
theorem dJ4_equalsArrayList_1 : decode cJ4_equalsArrayList 1 = .ok (.getfield 63, 3) := dk_180 0 63 (dk_at dksJ4_equalsArrayList_0 1 rfl rfl)
theorem dJ4_equalsArrayList_4 : decode cJ4_equalsArrayList 4 = .ok (.istore_n 2, 1) := dk_61 (dk_at dksJ4_equalsArrayList_0 4 rfl rfl)
theorem dJ4_equalsArrayList_5 : decode cJ4_equalsArrayList 5 = .ok (.aload_n 0, 1) := dk_42 (dk_at dksJ4_equalsArrayList_0 5 rfl rfl)
theorem dJ4_equalsArrayList_6 : decode cJ4_equalsArrayList 6 = .ok (.getfield 48, 3) := dk_180 0 48 (dk_at dksJ4_equalsArrayList_0 6 rfl rfl)
theorem dJ4_equalsArrayList_9 : decode cJ4_equalsArrayList 9 = .ok (.istore_n 3, 1) := dk_62 (dk_at dksJ4_equalsArrayList_0 9 rfl rfl)
theorem dJ4_equalsArrayList_10 : decode cJ4_equalsArrayList 10 = .ok (.iload_n 3, 1) := dk_29 (dk_at dksJ4_equalsArrayList_0 10 rfl rfl)
theorem dJ4_equalsArrayList_11 : decode cJ4_equalsArrayList 11 = .ok (.aload_n 1, 1) := dk_43 (dk_at dksJ4_equalsArrayList_0 11 rfl rfl)
theorem dJ4_equalsArrayList_12 : decode cJ4_equalsArrayList 12 = .ok (.getfield 48, 3) := dk_180 0 48 (dk_at dksJ4_equalsArrayList_0 12 rfl rfl)
theorem dJ4_equalsArrayList_15 : decode cJ4_equalsArrayList 15 = .ok (.if_icmp .ne 7, 3) := dk_160 0 7 (dk_at dksJ4_equalsArrayList_0 15 rfl rfl)
theorem dJ4_equalsArrayList_18 : decode cJ4_equalsArrayList 18 = .ok (.iconst 1, 1) := dk_4 (dk_at dksJ4_equalsArrayList_0 18 rfl rfl)
theorem dJ4_equalsArrayList_19 : decode cJ4_equalsArrayList 19 = .ok (.goto 4, 3) := dk_167 0 4 (dk_at dksJ4_equalsArrayList_0 19 rfl rfl)
theorem dJ4_equalsArrayList_22 : decode cJ4_equalsArrayList 22 = .ok (.iconst 0, 1) := dk_3 (dk_at dksJ4_equalsArrayList_0 22 rfl rfl)
theorem dJ4_equalsArrayList_23 : decode cJ4_equalsArrayList 23 = .ok (.dup, 1) := dk_89 (dk_at dksJ4_equalsArrayList_0 23 rfl rfl)
theorem dJ4_equalsArrayList_24 : decode cJ4_equalsArrayList 24 = .ok (.istore 4, 2) := dk_54 4 (dk_at dksJ4_equalsArrayList_1 0 rfl rfl)
theorem dJ4_equalsArrayList_26 : decode cJ4_equalsArrayList 26 = .ok (.ifCond .eq 74, 3) := dk_153 0 74 (dk_at dksJ4_equalsArrayList_1 2 rfl rfl)
theorem dJ4_equalsArrayList_29 : decode cJ4_equalsArrayList 29 = .ok (.aload_n 1, 1) := dk_43 (dk_at dksJ4_equalsArrayList_1 5 rfl rfl)
theorem dJ4_equalsArrayList_30 : decode cJ4_equalsArrayList 30 = .ok (.getfield 9, 3) := dk_180 0 9 (dk_at dksJ4_equalsArrayList_1 6 rfl rfl)
theorem dJ4_equalsArrayList_33 : decode cJ4_equalsArrayList 33 = .ok (.astore 5, 2) := dk_58 5 (dk_at dksJ4_equalsArrayList_1 9 rfl rfl)
theorem dJ4_equalsArrayList_35 : decode cJ4_equalsArrayList 35 = .ok (.aload_n 0, 1) := dk_42 (dk_at dksJ4_equalsArrayList_1 11 rfl rfl)
theorem dJ4_equalsArrayList_36 : decode cJ4_equalsArrayList 36 = .ok (.getfield 9, 3) := dk_180 0 9 (dk_at dksJ4_equalsArrayList_1 12 rfl rfl)
theorem dJ4_equalsArrayList_39 : decode cJ4_equalsArrayList 39 = .ok (.astore 6, 2) := dk_58 6 (dk_at dksJ4_equalsArrayList_1 15 rfl rfl)
theorem dJ4_equalsArrayList_41 : decode cJ4_equalsArrayList 41 = .ok (.iload_n 3, 1) := dk_29 (dk_at dksJ4_equalsArrayList_1 17 rfl rfl)
theorem dJ4_equalsArrayList_42 : decode cJ4_equalsArrayList 42 = .ok (.aload 6, 2) := dk_25 6 (dk_at dksJ4_equalsArrayList_1 18 rfl rfl)
theorem dJ4_equalsArrayList_44 : decode cJ4_equalsArrayList 44 = .ok (.arraylength, 1) := dk_190 (dk_at dksJ4_equalsArrayList_1 20 rfl rfl)
theorem dJ4_equalsArrayList_45 : decode cJ4_equalsArrayList 45 = .ok (.if_icmp .gt 10, 3) := dk_163 0 10 (dk_at dksJ4_equalsArrayList_1 21 rfl rfl)
theorem dJ4_equalsArrayList_48 : decode cJ4_equalsArrayList 48 = .ok (.iload_n 3, 1) := dk_29 (dk_at dksJ4_equalsArrayList_2 0 rfl rfl)
theorem dJ4_equalsArrayList_49 : decode cJ4_equalsArrayList 49 = .ok (.aload 5, 2) := dk_25 5 (dk_at dksJ4_equalsArrayList_2 1 rfl rfl)
theorem dJ4_equalsArrayList_51 : decode cJ4_equalsArrayList 51 = .ok (.arraylength, 1) := dk_190 (dk_at dksJ4_equalsArrayList_2 3 rfl rfl)
theorem dJ4_equalsArrayList_52 : decode cJ4_equalsArrayList 52 = .ok (.if_icmp .le 11, 3) := dk_164 0 11 (dk_at dksJ4_equalsArrayList_2 4 rfl rfl)
theorem dJ4_equalsArrayList_55 : decode cJ4_equalsArrayList 55 = .ok (.new 161, 3) := dk_187 0 161 (dk_at dksJ4_equalsArrayList_2 7 rfl rfl)
theorem dJ4_equalsArrayList_58 : decode cJ4_equalsArrayList 58 = .ok (.dup, 1) := dk_89 (dk_at dksJ4_equalsArrayList_2 10 rfl rfl)
theorem dJ4_equalsArrayList_59 : decode cJ4_equalsArrayList 59 = .ok (.invokespecial 163, 3) := dk_183 0 163 (dk_at dksJ4_equalsArrayList_2 11 rfl rfl)
theorem dJ4_equalsArrayList_62 : decode cJ4_equalsArrayList 62 = .ok (.athrow, 1) := dk_191 (dk_at dksJ4_equalsArrayList_2 14 rfl rfl)
theorem dJ4_equalsArrayList_63 : decode cJ4_equalsArrayList 63 = .ok (.iconst 0, 1) := dk_3 (dk_at dksJ4_equalsArrayList_2 15 rfl rfl)
theorem dJ4_equalsArrayList_64 : decode cJ4_equalsArrayList 64 = .ok (.istore 7, 2) := dk_54 7 (dk_at dksJ4_equalsArrayList_2 16 rfl rfl)
theorem dJ4_equalsArrayList_66 : decode cJ4_equalsArrayList 66 = .ok (.iload 7, 2) := dk_21 7 (dk_at dksJ4_equalsArrayList_2 18 rfl rfl)
theorem dJ4_equalsArrayList_68 : decode cJ4_equalsArrayList 68 = .ok (.iload_n 3, 1) := dk_29 (dk_at dksJ4_equalsArrayList_2 20 rfl rfl)
theorem dJ4_equalsArrayList_69 : decode cJ4_equalsArrayList 69 = .ok (.if_icmp .ge 31, 3) := dk_162 0 31 (dk_at dksJ4_equalsArrayList_2 21 rfl rfl)
theorem dJ4_equalsArrayList_72 : decode cJ4_equalsArrayList 72 = .ok (.aload 6, 2) := dk_25 6 (dk_at dksJ4_equalsArrayList_3 0 rfl rfl)
theorem dJ4_equalsArrayList_74 : decode cJ4_equalsArrayList 74 = .ok (.iload 7, 2) := dk_21 7 (dk_at dksJ4_equalsArrayList_3 2 rfl rfl)
theorem dJ4_equalsArrayList_76 : decode cJ4_equalsArrayList 76 = .ok (.aaload, 1) := dk_50 (dk_at dksJ4_equalsArrayList_3 4 rfl rfl)
theorem dJ4_equalsArrayList_77 : decode cJ4_equalsArrayList 77 = .ok (.aload 5, 2) := dk_25 5 (dk_at dksJ4_equalsArrayList_3 5 rfl rfl)
theorem dJ4_equalsArrayList_79 : decode cJ4_equalsArrayList 79 = .ok (.iload 7, 2) := dk_21 7 (dk_at dksJ4_equalsArrayList_3 7 rfl rfl)
theorem dJ4_equalsArrayList_81 : decode cJ4_equalsArrayList 81 = .ok (.aaload, 1) := dk_50 (dk_at dksJ4_equalsArrayList_3 9 rfl rfl)
theorem dJ4_equalsArrayList_82 : decode cJ4_equalsArrayList 82 = .ok (.invokestatic 177, 3) := dk_184 0 177 (dk_at dksJ4_equalsArrayList_3 10 rfl rfl)
theorem dJ4_equalsArrayList_85 : decode cJ4_equalsArrayList 85 = .ok (.ifCond .ne 9, 3) := dk_154 0 9 (dk_at dksJ4_equalsArrayList_3 13 rfl rfl)
theorem dJ4_equalsArrayList_88 : decode cJ4_equalsArrayList 88 = .ok (.iconst 0, 1) := dk_3 (dk_at dksJ4_equalsArrayList_3 16 rfl rfl)
theorem dJ4_equalsArrayList_89 : decode cJ4_equalsArrayList 89 = .ok (.istore 4, 2) := dk_54 4 (dk_at dksJ4_equalsArrayList_3 17 rfl rfl)
theorem dJ4_equalsArrayList_91 : decode cJ4_equalsArrayList 91 = .ok (.goto 9, 3) := dk_167 0 9 (dk_at dksJ4_equalsArrayList_3 19 rfl rfl)
theorem dJ4_equalsArrayList_94 : decode cJ4_equalsArrayList 94 = .ok (.iinc 7 1, 3) := dk_132 7 1 (dk_at dksJ4_equalsArrayList_4 0 rfl rfl)
theorem dJ4_equalsArrayList_97 : decode cJ4_equalsArrayList 97 = .ok (.goto (-31), 3) := dk_167 255 225 (dk_at dksJ4_equalsArrayList_4 3 rfl rfl)
theorem dJ4_equalsArrayList_100 : decode cJ4_equalsArrayList 100 = .ok (.aload_n 1, 1) := dk_43 (dk_at dksJ4_equalsArrayList_4 6 rfl rfl)
theorem dJ4_equalsArrayList_101 : decode cJ4_equalsArrayList 101 = .ok (.iload_n 2, 1) := dk_28 (dk_at dksJ4_equalsArrayList_4 7 rfl rfl)
theorem dJ4_equalsArrayList_102 : decode cJ4_equalsArrayList 102 = .ok (.invokevirtual 158, 3) := dk_182 0 158 (dk_at dksJ4_equalsArrayList_4 8 rfl rfl)
theorem dJ4_equalsArrayList_105 : decode cJ4_equalsArrayList 105 = .ok (.iload 4, 2) := dk_21 4 (dk_at dksJ4_equalsArrayList_4 11 rfl rfl)
theorem dJ4_equalsArrayList_107 : decode cJ4_equalsArrayList 107 = .ok (.ireturn, 1) := dk_172 (dk_at dksJ4_equalsArrayList_4 13 rfl rfl)
abbrev cJ4_checkForComodification : ByteArray := prog_47_method_35_code
def yJ4_checkForComodification : MethodName := ⟨RJ4, "checkForComodification", "(I)V"⟩
def dkwJ4_checkForComodification_0 : List UInt8 := [42, 180, 0, 63, 27, 159, 0, 11, 187, 0, 161, 89, 183, 0, 163, 191, 177]
abbrev dktJ4_checkForComodification_0 : List UInt8 := dkwJ4_checkForComodification_0 ++ []
theorem dksJ4_checkForComodification_0 : cJ4_checkForComodification.data.toList.drop 0 = dktJ4_checkForComodification_0 := by decide +kernel
theorem dJ4_checkForComodification_0 : decode cJ4_checkForComodification 0 = .ok (.aload_n 0, 1) := dk_42 (dk_at dksJ4_checkForComodification_0 0 rfl rfl)
theorem dJ4_checkForComodification_1 : decode cJ4_checkForComodification 1 = .ok (.getfield 63, 3) := dk_180 0 63 (dk_at dksJ4_checkForComodification_0 1 rfl rfl)
theorem dJ4_checkForComodification_4 : decode cJ4_checkForComodification 4 = .ok (.iload_n 1, 1) := dk_27 (dk_at dksJ4_checkForComodification_0 4 rfl rfl)
theorem dJ4_checkForComodification_5 : decode cJ4_checkForComodification 5 = .ok (.if_icmp .eq 11, 3) := dk_159 0 11 (dk_at dksJ4_checkForComodification_0 5 rfl rfl)
theorem dJ4_checkForComodification_8 : decode cJ4_checkForComodification 8 = .ok (.new 161, 3) := dk_187 0 161 (dk_at dksJ4_checkForComodification_0 8 rfl rfl)
theorem dJ4_checkForComodification_11 : decode cJ4_checkForComodification 11 = .ok (.dup, 1) := dk_89 (dk_at dksJ4_checkForComodification_0 11 rfl rfl)
theorem dJ4_checkForComodification_12 : decode cJ4_checkForComodification 12 = .ok (.invokespecial 163, 3) := dk_183 0 163 (dk_at dksJ4_checkForComodification_0 12 rfl rfl)
theorem dJ4_checkForComodification_15 : decode cJ4_checkForComodification 15 = .ok (.athrow, 1) := dk_191 (dk_at dksJ4_checkForComodification_0 15 rfl rfl)
theorem dJ4_checkForComodification_16 : decode cJ4_checkForComodification 16 = .ok (.return_, 1) := dk_177 (dk_at dksJ4_checkForComodification_0 16 rfl rfl)
abbrev cJ4_equalsRange : ByteArray := prog_47_method_33_code
def yJ4_equalsRange : MethodName := ⟨RJ4, "equalsRange", "(Ljava/util/List;II)Z"⟩
def dkwJ4_equalsRange_3 : List UInt8 := [25, 5, 185, 0, 168, 1, 0, 154, 0, 7, 4, 167, 0, 4, 3, 172]
abbrev dktJ4_equalsRange_3 : List UInt8 := dkwJ4_equalsRange_3 ++ []
def dkwJ4_equalsRange_2 : List UInt8 := [28, 50, 25, 5, 185, 0, 174, 1, 0, 184, 0, 177, 154, 0, 5, 3, 172, 132, 2, 1, 167, 255, 219]
abbrev dktJ4_equalsRange_2 : List UInt8 := dkwJ4_equalsRange_2 ++ dktJ4_equalsRange_3
def dkwJ4_equalsRange_1 : List UInt8 := [185, 0, 164, 1, 0, 58, 5, 28, 29, 162, 0, 38, 25, 5, 185, 0, 168, 1, 0, 153, 0, 20, 25, 4]
abbrev dktJ4_equalsRange_1 : List UInt8 := dkwJ4_equalsRange_1 ++ dktJ4_equalsRange_2
def dkwJ4_equalsRange_0 : List UInt8 := [42, 180, 0, 9, 58, 4, 29, 25, 4, 190, 164, 0, 11, 187, 0, 161, 89, 183, 0, 163, 191, 43]
abbrev dktJ4_equalsRange_0 : List UInt8 := dkwJ4_equalsRange_0 ++ dktJ4_equalsRange_1
theorem dksJ4_equalsRange_0 : cJ4_equalsRange.data.toList.drop 0 = dktJ4_equalsRange_0 := by decide +kernel
theorem dksJ4_equalsRange_1 : cJ4_equalsRange.data.toList.drop 22 = dktJ4_equalsRange_1 := dk_seg dksJ4_equalsRange_0 22 rfl rfl
theorem dksJ4_equalsRange_2 : cJ4_equalsRange.data.toList.drop 46 = dktJ4_equalsRange_2 := dk_seg dksJ4_equalsRange_1 24 rfl rfl
theorem dksJ4_equalsRange_3 : cJ4_equalsRange.data.toList.drop 69 = dktJ4_equalsRange_3 := dk_seg dksJ4_equalsRange_2 23 rfl rfl
theorem dJ4_equalsRange_0 : decode cJ4_equalsRange 0 = .ok (.aload_n 0, 1) := dk_42 (dk_at dksJ4_equalsRange_0 0 rfl rfl)
theorem dJ4_equalsRange_1 : decode cJ4_equalsRange 1 = .ok (.getfield 9, 3) := dk_180 0 9 (dk_at dksJ4_equalsRange_0 1 rfl rfl)
theorem dJ4_equalsRange_4 : decode cJ4_equalsRange 4 = .ok (.astore 4, 2) := dk_58 4 (dk_at dksJ4_equalsRange_0 4 rfl rfl)
theorem dJ4_equalsRange_6 : decode cJ4_equalsRange 6 = .ok (.iload_n 3, 1) := dk_29 (dk_at dksJ4_equalsRange_0 6 rfl rfl)
theorem dJ4_equalsRange_7 : decode cJ4_equalsRange 7 = .ok (.aload 4, 2) := dk_25 4 (dk_at dksJ4_equalsRange_0 7 rfl rfl)
theorem dJ4_equalsRange_9 : decode cJ4_equalsRange 9 = .ok (.arraylength, 1) := dk_190 (dk_at dksJ4_equalsRange_0 9 rfl rfl)
theorem dJ4_equalsRange_10 : decode cJ4_equalsRange 10 = .ok (.if_icmp .le 11, 3) := dk_164 0 11 (dk_at dksJ4_equalsRange_0 10 rfl rfl)
theorem dJ4_equalsRange_13 : decode cJ4_equalsRange 13 = .ok (.new 161, 3) := dk_187 0 161 (dk_at dksJ4_equalsRange_0 13 rfl rfl)
theorem dJ4_equalsRange_16 : decode cJ4_equalsRange 16 = .ok (.dup, 1) := dk_89 (dk_at dksJ4_equalsRange_0 16 rfl rfl)
theorem dJ4_equalsRange_17 : decode cJ4_equalsRange 17 = .ok (.invokespecial 163, 3) := dk_183 0 163 (dk_at dksJ4_equalsRange_0 17 rfl rfl)
theorem dJ4_equalsRange_20 : decode cJ4_equalsRange 20 = .ok (.athrow, 1) := dk_191 (dk_at dksJ4_equalsRange_0 20 rfl rfl)
theorem dJ4_equalsRange_21 : decode cJ4_equalsRange 21 = .ok (.aload_n 1, 1) := dk_43 (dk_at dksJ4_equalsRange_0 21 rfl rfl)
theorem dJ4_equalsRange_22 : decode cJ4_equalsRange 22 = .ok (.invokeinterface 164 1, 5) := by decide +kernel
theorem dJ4_equalsRange_27 : decode cJ4_equalsRange 27 = .ok (.astore 5, 2) := dk_58 5 (dk_at dksJ4_equalsRange_1 5 rfl rfl)
theorem dJ4_equalsRange_29 : decode cJ4_equalsRange 29 = .ok (.iload_n 2, 1) := dk_28 (dk_at dksJ4_equalsRange_1 7 rfl rfl)
theorem dJ4_equalsRange_30 : decode cJ4_equalsRange 30 = .ok (.iload_n 3, 1) := dk_29 (dk_at dksJ4_equalsRange_1 8 rfl rfl)
theorem dJ4_equalsRange_31 : decode cJ4_equalsRange 31 = .ok (.if_icmp .ge 38, 3) := dk_162 0 38 (dk_at dksJ4_equalsRange_1 9 rfl rfl)
theorem dJ4_equalsRange_34 : decode cJ4_equalsRange 34 = .ok (.aload 5, 2) := dk_25 5 (dk_at dksJ4_equalsRange_1 12 rfl rfl)
theorem dJ4_equalsRange_36 : decode cJ4_equalsRange 36 = .ok (.invokeinterface 168 1, 5) := by decide +kernel
theorem dJ4_equalsRange_41 : decode cJ4_equalsRange 41 = .ok (.ifCond .eq 20, 3) := dk_153 0 20 (dk_at dksJ4_equalsRange_1 19 rfl rfl)
theorem dJ4_equalsRange_44 : decode cJ4_equalsRange 44 = .ok (.aload 4, 2) := dk_25 4 (dk_at dksJ4_equalsRange_1 22 rfl rfl)
theorem dJ4_equalsRange_46 : decode cJ4_equalsRange 46 = .ok (.iload_n 2, 1) := dk_28 (dk_at dksJ4_equalsRange_2 0 rfl rfl)
theorem dJ4_equalsRange_47 : decode cJ4_equalsRange 47 = .ok (.aaload, 1) := dk_50 (dk_at dksJ4_equalsRange_2 1 rfl rfl)
theorem dJ4_equalsRange_48 : decode cJ4_equalsRange 48 = .ok (.aload 5, 2) := dk_25 5 (dk_at dksJ4_equalsRange_2 2 rfl rfl)
theorem dJ4_equalsRange_50 : decode cJ4_equalsRange 50 = .ok (.invokeinterface 174 1, 5) := by decide +kernel
theorem dJ4_equalsRange_55 : decode cJ4_equalsRange 55 = .ok (.invokestatic 177, 3) := dk_184 0 177 (dk_at dksJ4_equalsRange_2 9 rfl rfl)
theorem dJ4_equalsRange_58 : decode cJ4_equalsRange 58 = .ok (.ifCond .ne 5, 3) := dk_154 0 5 (dk_at dksJ4_equalsRange_2 12 rfl rfl)
theorem dJ4_equalsRange_61 : decode cJ4_equalsRange 61 = .ok (.iconst 0, 1) := dk_3 (dk_at dksJ4_equalsRange_2 15 rfl rfl)
theorem dJ4_equalsRange_62 : decode cJ4_equalsRange 62 = .ok (.ireturn, 1) := dk_172 (dk_at dksJ4_equalsRange_2 16 rfl rfl)
theorem dJ4_equalsRange_63 : decode cJ4_equalsRange 63 = .ok (.iinc 2 1, 3) := dk_132 2 1 (dk_at dksJ4_equalsRange_2 17 rfl rfl)
theorem dJ4_equalsRange_66 : decode cJ4_equalsRange 66 = .ok (.goto (-37), 3) := dk_167 255 219 (dk_at dksJ4_equalsRange_2 20 rfl rfl)
theorem dJ4_equalsRange_69 : decode cJ4_equalsRange 69 = .ok (.aload 5, 2) := dk_25 5 (dk_at dksJ4_equalsRange_3 0 rfl rfl)
theorem dJ4_equalsRange_71 : decode cJ4_equalsRange 71 = .ok (.invokeinterface 168 1, 5) := by decide +kernel
theorem dJ4_equalsRange_76 : decode cJ4_equalsRange 76 = .ok (.ifCond .ne 7, 3) := dk_154 0 7 (dk_at dksJ4_equalsRange_3 7 rfl rfl)
theorem dJ4_equalsRange_79 : decode cJ4_equalsRange 79 = .ok (.iconst 1, 1) := dk_4 (dk_at dksJ4_equalsRange_3 10 rfl rfl)
theorem dJ4_equalsRange_80 : decode cJ4_equalsRange 80 = .ok (.goto 4, 3) := dk_167 0 4 (dk_at dksJ4_equalsRange_3 11 rfl rfl)
theorem dJ4_equalsRange_83 : decode cJ4_equalsRange 83 = .ok (.iconst 0, 1) := dk_3 (dk_at dksJ4_equalsRange_3 14 rfl rfl)
theorem dJ4_equalsRange_84 : decode cJ4_equalsRange 84 = .ok (.ireturn, 1) := dk_172 (dk_at dksJ4_equalsRange_3 15 rfl rfl)
abbrev cJ4_get : ByteArray := prog_47_method_20_code
def yJ4_get : MethodName := ⟨RJ4, "get", "(I)Ljava/lang/Object;"⟩
def dkwJ4_get_0 : List UInt8 := [27, 42, 180, 0, 48, 184, 0, 118, 87, 42, 27, 182, 0, 123, 176]
abbrev dktJ4_get_0 : List UInt8 := dkwJ4_get_0 ++ []
theorem dksJ4_get_0 : cJ4_get.data.toList.drop 0 = dktJ4_get_0 := by decide +kernel
theorem dJ4_get_0 : decode cJ4_get 0 = .ok (.iload_n 1, 1) := dk_27 (dk_at dksJ4_get_0 0 rfl rfl)
theorem dJ4_get_1 : decode cJ4_get 1 = .ok (.aload_n 0, 1) := dk_42 (dk_at dksJ4_get_0 1 rfl rfl)
theorem dJ4_get_2 : decode cJ4_get 2 = .ok (.getfield 48, 3) := dk_180 0 48 (dk_at dksJ4_get_0 2 rfl rfl)
theorem dJ4_get_5 : decode cJ4_get 5 = .ok (.invokestatic 118, 3) := dk_184 0 118 (dk_at dksJ4_get_0 5 rfl rfl)
theorem dJ4_get_8 : decode cJ4_get 8 = .ok (.pop, 1) := dk_87 (dk_at dksJ4_get_0 8 rfl rfl)
theorem dJ4_get_9 : decode cJ4_get 9 = .ok (.aload_n 0, 1) := dk_42 (dk_at dksJ4_get_0 9 rfl rfl)
theorem dJ4_get_10 : decode cJ4_get 10 = .ok (.iload_n 1, 1) := dk_27 (dk_at dksJ4_get_0 10 rfl rfl)
theorem dJ4_get_11 : decode cJ4_get 11 = .ok (.invokevirtual 123, 3) := dk_182 0 123 (dk_at dksJ4_get_0 11 rfl rfl)
theorem dJ4_get_14 : decode cJ4_get 14 = .ok (.areturn, 1) := dk_176 (dk_at dksJ4_get_0 14 rfl rfl)
abbrev cJ4_elementData : ByteArray := prog_47_method_18_code
def yJ4_elementData : MethodName := ⟨RJ4, "elementData", "(I)Ljava/lang/Object;"⟩
def dkwJ4_elementData_0 : List UInt8 := [42, 180, 0, 9, 27, 50, 176]
abbrev dktJ4_elementData_0 : List UInt8 := dkwJ4_elementData_0 ++ []
theorem dksJ4_elementData_0 : cJ4_elementData.data.toList.drop 0 = dktJ4_elementData_0 := by decide +kernel
theorem dJ4_elementData_0 : decode cJ4_elementData 0 = .ok (.aload_n 0, 1) := dk_42 (dk_at dksJ4_elementData_0 0 rfl rfl)
theorem dJ4_elementData_1 : decode cJ4_elementData 1 = .ok (.getfield 9, 3) := dk_180 0 9 (dk_at dksJ4_elementData_0 1 rfl rfl)
theorem dJ4_elementData_4 : decode cJ4_elementData 4 = .ok (.iload_n 1, 1) := dk_27 (dk_at dksJ4_elementData_0 4 rfl rfl)
theorem dJ4_elementData_5 : decode cJ4_elementData 5 = .ok (.aaload, 1) := dk_50 (dk_at dksJ4_elementData_0 5 rfl rfl)
theorem dJ4_elementData_6 : decode cJ4_elementData 6 = .ok (.areturn, 1) := dk_176 (dk_at dksJ4_elementData_0 6 rfl rfl)
abbrev cJ4_addAll : ByteArray := prog_47_method_41_code
def yJ4_addAll : MethodName := ⟨RJ4, "addAll", "(Ljava/util/Collection;)Z"⟩
def dkwJ4_addAll_3 : List UInt8 := [181, 0, 48, 4, 172]
abbrev dktJ4_addAll_3 : List UInt8 := dkwJ4_addAll_3 ++ []
def dkwJ4_addAll_2 : List UInt8 := [21, 5, 29, 96, 182, 0, 69, 58, 4, 44, 3, 25, 4, 21, 5, 29, 184, 0, 112, 42, 21, 5, 29, 96]
abbrev dktJ4_addAll_2 : List UInt8 := dkwJ4_addAll_2 ++ dktJ4_addAll_3
def dkwJ4_addAll_1 : List UInt8 := [3, 172, 29, 42, 180, 0, 9, 89, 58, 4, 190, 42, 180, 0, 48, 89, 54, 5, 100, 164, 0, 13, 42]
abbrev dktJ4_addAll_1 : List UInt8 := dkwJ4_addAll_1 ++ dktJ4_addAll_2
def dkwJ4_addAll_0 : List UInt8 := [43, 185, 0, 42, 1, 0, 77, 42, 89, 180, 0, 63, 4, 96, 181, 0, 63, 44, 190, 62, 29, 154, 0, 5]
abbrev dktJ4_addAll_0 : List UInt8 := dkwJ4_addAll_0 ++ dktJ4_addAll_1
theorem dksJ4_addAll_0 : cJ4_addAll.data.toList.drop 0 = dktJ4_addAll_0 := by decide +kernel
theorem dksJ4_addAll_1 : cJ4_addAll.data.toList.drop 24 = dktJ4_addAll_1 := dk_seg dksJ4_addAll_0 24 rfl rfl
theorem dksJ4_addAll_2 : cJ4_addAll.data.toList.drop 47 = dktJ4_addAll_2 := dk_seg dksJ4_addAll_1 23 rfl rfl
theorem dksJ4_addAll_3 : cJ4_addAll.data.toList.drop 71 = dktJ4_addAll_3 := dk_seg dksJ4_addAll_2 24 rfl rfl
theorem dJ4_addAll_0 : decode cJ4_addAll 0 = .ok (.aload_n 1, 1) := dk_43 (dk_at dksJ4_addAll_0 0 rfl rfl)
theorem dJ4_addAll_1 : decode cJ4_addAll 1 = .ok (.invokeinterface 42 1, 5) := by decide +kernel
theorem dJ4_addAll_6 : decode cJ4_addAll 6 = .ok (.astore_n 2, 1) := dk_77 (dk_at dksJ4_addAll_0 6 rfl rfl)
theorem dJ4_addAll_7 : decode cJ4_addAll 7 = .ok (.aload_n 0, 1) := dk_42 (dk_at dksJ4_addAll_0 7 rfl rfl)
theorem dJ4_addAll_8 : decode cJ4_addAll 8 = .ok (.dup, 1) := dk_89 (dk_at dksJ4_addAll_0 8 rfl rfl)
theorem dJ4_addAll_9 : decode cJ4_addAll 9 = .ok (.getfield 63, 3) := dk_180 0 63 (dk_at dksJ4_addAll_0 9 rfl rfl)
theorem dJ4_addAll_12 : decode cJ4_addAll 12 = .ok (.iconst 1, 1) := dk_4 (dk_at dksJ4_addAll_0 12 rfl rfl)
theorem dJ4_addAll_13 : decode cJ4_addAll 13 = .ok (.iadd, 1) := dk_96 (dk_at dksJ4_addAll_0 13 rfl rfl)
theorem dJ4_addAll_14 : decode cJ4_addAll 14 = .ok (.putfield 63, 3) := dk_181 0 63 (dk_at dksJ4_addAll_0 14 rfl rfl)
theorem dJ4_addAll_17 : decode cJ4_addAll 17 = .ok (.aload_n 2, 1) := dk_44 (dk_at dksJ4_addAll_0 17 rfl rfl)
theorem dJ4_addAll_18 : decode cJ4_addAll 18 = .ok (.arraylength, 1) := dk_190 (dk_at dksJ4_addAll_0 18 rfl rfl)
theorem dJ4_addAll_19 : decode cJ4_addAll 19 = .ok (.istore_n 3, 1) := dk_62 (dk_at dksJ4_addAll_0 19 rfl rfl)
theorem dJ4_addAll_20 : decode cJ4_addAll 20 = .ok (.iload_n 3, 1) := dk_29 (dk_at dksJ4_addAll_0 20 rfl rfl)
theorem dJ4_addAll_21 : decode cJ4_addAll 21 = .ok (.ifCond .ne 5, 3) := dk_154 0 5 (dk_at dksJ4_addAll_0 21 rfl rfl)
theorem dJ4_addAll_24 : decode cJ4_addAll 24 = .ok (.iconst 0, 1) := dk_3 (dk_at dksJ4_addAll_1 0 rfl rfl)
theorem dJ4_addAll_25 : decode cJ4_addAll 25 = .ok (.ireturn, 1) := dk_172 (dk_at dksJ4_addAll_1 1 rfl rfl)
theorem dJ4_addAll_26 : decode cJ4_addAll 26 = .ok (.iload_n 3, 1) := dk_29 (dk_at dksJ4_addAll_1 2 rfl rfl)
theorem dJ4_addAll_27 : decode cJ4_addAll 27 = .ok (.aload_n 0, 1) := dk_42 (dk_at dksJ4_addAll_1 3 rfl rfl)
theorem dJ4_addAll_28 : decode cJ4_addAll 28 = .ok (.getfield 9, 3) := dk_180 0 9 (dk_at dksJ4_addAll_1 4 rfl rfl)
theorem dJ4_addAll_31 : decode cJ4_addAll 31 = .ok (.dup, 1) := dk_89 (dk_at dksJ4_addAll_1 7 rfl rfl)
theorem dJ4_addAll_32 : decode cJ4_addAll 32 = .ok (.astore 4, 2) := dk_58 4 (dk_at dksJ4_addAll_1 8 rfl rfl)
theorem dJ4_addAll_34 : decode cJ4_addAll 34 = .ok (.arraylength, 1) := dk_190 (dk_at dksJ4_addAll_1 10 rfl rfl)
theorem dJ4_addAll_35 : decode cJ4_addAll 35 = .ok (.aload_n 0, 1) := dk_42 (dk_at dksJ4_addAll_1 11 rfl rfl)
theorem dJ4_addAll_36 : decode cJ4_addAll 36 = .ok (.getfield 48, 3) := dk_180 0 48 (dk_at dksJ4_addAll_1 12 rfl rfl)
theorem dJ4_addAll_39 : decode cJ4_addAll 39 = .ok (.dup, 1) := dk_89 (dk_at dksJ4_addAll_1 15 rfl rfl)
theorem dJ4_addAll_40 : decode cJ4_addAll 40 = .ok (.istore 5, 2) := dk_54 5 (dk_at dksJ4_addAll_1 16 rfl rfl)
theorem dJ4_addAll_42 : decode cJ4_addAll 42 = .ok (.isub, 1) := dk_100 (dk_at dksJ4_addAll_1 18 rfl rfl)
theorem dJ4_addAll_43 : decode cJ4_addAll 43 = .ok (.if_icmp .le 13, 3) := dk_164 0 13 (dk_at dksJ4_addAll_1 19 rfl rfl)
theorem dJ4_addAll_46 : decode cJ4_addAll 46 = .ok (.aload_n 0, 1) := dk_42 (dk_at dksJ4_addAll_1 22 rfl rfl)
theorem dJ4_addAll_47 : decode cJ4_addAll 47 = .ok (.iload 5, 2) := dk_21 5 (dk_at dksJ4_addAll_2 0 rfl rfl)
theorem dJ4_addAll_49 : decode cJ4_addAll 49 = .ok (.iload_n 3, 1) := dk_29 (dk_at dksJ4_addAll_2 2 rfl rfl)
theorem dJ4_addAll_50 : decode cJ4_addAll 50 = .ok (.iadd, 1) := dk_96 (dk_at dksJ4_addAll_2 3 rfl rfl)
theorem dJ4_addAll_51 : decode cJ4_addAll 51 = .ok (.invokevirtual 69, 3) := dk_182 0 69 (dk_at dksJ4_addAll_2 4 rfl rfl)
theorem dJ4_addAll_54 : decode cJ4_addAll 54 = .ok (.astore 4, 2) := dk_58 4 (dk_at dksJ4_addAll_2 7 rfl rfl)
theorem dJ4_addAll_56 : decode cJ4_addAll 56 = .ok (.aload_n 2, 1) := dk_44 (dk_at dksJ4_addAll_2 9 rfl rfl)
theorem dJ4_addAll_57 : decode cJ4_addAll 57 = .ok (.iconst 0, 1) := dk_3 (dk_at dksJ4_addAll_2 10 rfl rfl)
theorem dJ4_addAll_58 : decode cJ4_addAll 58 = .ok (.aload 4, 2) := dk_25 4 (dk_at dksJ4_addAll_2 11 rfl rfl)
theorem dJ4_addAll_60 : decode cJ4_addAll 60 = .ok (.iload 5, 2) := dk_21 5 (dk_at dksJ4_addAll_2 13 rfl rfl)
theorem dJ4_addAll_62 : decode cJ4_addAll 62 = .ok (.iload_n 3, 1) := dk_29 (dk_at dksJ4_addAll_2 15 rfl rfl)
theorem dJ4_addAll_63 : decode cJ4_addAll 63 = .ok (.invokestatic 112, 3) := dk_184 0 112 (dk_at dksJ4_addAll_2 16 rfl rfl)
theorem dJ4_addAll_66 : decode cJ4_addAll 66 = .ok (.aload_n 0, 1) := dk_42 (dk_at dksJ4_addAll_2 19 rfl rfl)
theorem dJ4_addAll_67 : decode cJ4_addAll 67 = .ok (.iload 5, 2) := dk_21 5 (dk_at dksJ4_addAll_2 20 rfl rfl)
theorem dJ4_addAll_69 : decode cJ4_addAll 69 = .ok (.iload_n 3, 1) := dk_29 (dk_at dksJ4_addAll_2 22 rfl rfl)
theorem dJ4_addAll_70 : decode cJ4_addAll 70 = .ok (.iadd, 1) := dk_96 (dk_at dksJ4_addAll_2 23 rfl rfl)
theorem dJ4_addAll_71 : decode cJ4_addAll 71 = .ok (.putfield 48, 3) := dk_181 0 48 (dk_at dksJ4_addAll_3 0 rfl rfl)
theorem dJ4_addAll_74 : decode cJ4_addAll 74 = .ok (.iconst 1, 1) := dk_4 (dk_at dksJ4_addAll_3 3 rfl rfl)
theorem dJ4_addAll_75 : decode cJ4_addAll 75 = .ok (.ireturn, 1) := dk_172 (dk_at dksJ4_addAll_3 4 rfl rfl)
abbrev cJ4_toArray : ByteArray := prog_47_method_16_code
def yJ4_toArray : MethodName := ⟨RJ4, "toArray", "()[Ljava/lang/Object;"⟩
def dkwJ4_toArray_0 : List UInt8 := [42, 180, 0, 9, 42, 180, 0, 48, 184, 0, 66, 176]
abbrev dktJ4_toArray_0 : List UInt8 := dkwJ4_toArray_0 ++ []
theorem dksJ4_toArray_0 : cJ4_toArray.data.toList.drop 0 = dktJ4_toArray_0 := by decide +kernel
theorem dJ4_toArray_0 : decode cJ4_toArray 0 = .ok (.aload_n 0, 1) := dk_42 (dk_at dksJ4_toArray_0 0 rfl rfl)
theorem dJ4_toArray_1 : decode cJ4_toArray 1 = .ok (.getfield 9, 3) := dk_180 0 9 (dk_at dksJ4_toArray_0 1 rfl rfl)
theorem dJ4_toArray_4 : decode cJ4_toArray 4 = .ok (.aload_n 0, 1) := dk_42 (dk_at dksJ4_toArray_0 4 rfl rfl)
theorem dJ4_toArray_5 : decode cJ4_toArray 5 = .ok (.getfield 48, 3) := dk_180 0 48 (dk_at dksJ4_toArray_0 5 rfl rfl)
theorem dJ4_toArray_8 : decode cJ4_toArray 8 = .ok (.invokestatic 66, 3) := dk_184 0 66 (dk_at dksJ4_toArray_0 8 rfl rfl)
theorem dJ4_toArray_11 : decode cJ4_toArray 11 = .ok (.areturn, 1) := dk_176 (dk_at dksJ4_toArray_0 11 rfl rfl)
abbrev cJ4_init_2 : ByteArray := prog_47_method_3_code
def yJ4_init_2 : MethodName := ⟨RJ4, "<init>", "(Ljava/util/Collection;)V"⟩
def dkwJ4_init_2_2 : List UInt8 := [18, 56, 184, 0, 57, 181, 0, 9, 167, 0, 10, 42, 178, 0, 15, 181, 0, 9, 177]
abbrev dktJ4_init_2_2 : List UInt8 := dkwJ4_init_2_2 ++ []
def dkwJ4_init_2_1 : List UInt8 := [185, 0, 52, 1, 0, 18, 10, 166, 0, 11, 42, 44, 181, 0, 9, 167, 0, 27, 42, 44, 42, 180, 0, 48]
abbrev dktJ4_init_2_1 : List UInt8 := dkwJ4_init_2_1 ++ dktJ4_init_2_2
def dkwJ4_init_2_0 : List UInt8 := [42, 183, 0, 1, 43, 185, 0, 42, 1, 0, 77, 42, 44, 190, 90, 181, 0, 48, 153, 0, 39, 43]
abbrev dktJ4_init_2_0 : List UInt8 := dkwJ4_init_2_0 ++ dktJ4_init_2_1
theorem dksJ4_init_2_0 : cJ4_init_2.data.toList.drop 0 = dktJ4_init_2_0 := by decide +kernel
theorem dksJ4_init_2_1 : cJ4_init_2.data.toList.drop 22 = dktJ4_init_2_1 := dk_seg dksJ4_init_2_0 22 rfl rfl
theorem dksJ4_init_2_2 : cJ4_init_2.data.toList.drop 46 = dktJ4_init_2_2 := dk_seg dksJ4_init_2_1 24 rfl rfl
theorem dJ4_init_2_0 : decode cJ4_init_2 0 = .ok (.aload_n 0, 1) := dk_42 (dk_at dksJ4_init_2_0 0 rfl rfl)
theorem dJ4_init_2_1 : decode cJ4_init_2 1 = .ok (.invokespecial 1, 3) := dk_183 0 1 (dk_at dksJ4_init_2_0 1 rfl rfl)
theorem dJ4_init_2_4 : decode cJ4_init_2 4 = .ok (.aload_n 1, 1) := dk_43 (dk_at dksJ4_init_2_0 4 rfl rfl)
theorem dJ4_init_2_5 : decode cJ4_init_2 5 = .ok (.invokeinterface 42 1, 5) := by decide +kernel
theorem dJ4_init_2_10 : decode cJ4_init_2 10 = .ok (.astore_n 2, 1) := dk_77 (dk_at dksJ4_init_2_0 10 rfl rfl)
theorem dJ4_init_2_11 : decode cJ4_init_2 11 = .ok (.aload_n 0, 1) := dk_42 (dk_at dksJ4_init_2_0 11 rfl rfl)
theorem dJ4_init_2_12 : decode cJ4_init_2 12 = .ok (.aload_n 2, 1) := dk_44 (dk_at dksJ4_init_2_0 12 rfl rfl)
theorem dJ4_init_2_13 : decode cJ4_init_2 13 = .ok (.arraylength, 1) := dk_190 (dk_at dksJ4_init_2_0 13 rfl rfl)
theorem dJ4_init_2_14 : decode cJ4_init_2 14 = .ok (.dup_x1, 1) := dk_90 (dk_at dksJ4_init_2_0 14 rfl rfl)
theorem dJ4_init_2_15 : decode cJ4_init_2 15 = .ok (.putfield 48, 3) := dk_181 0 48 (dk_at dksJ4_init_2_0 15 rfl rfl)
theorem dJ4_init_2_18 : decode cJ4_init_2 18 = .ok (.ifCond .eq 39, 3) := dk_153 0 39 (dk_at dksJ4_init_2_0 18 rfl rfl)
theorem dJ4_init_2_21 : decode cJ4_init_2 21 = .ok (.aload_n 1, 1) := dk_43 (dk_at dksJ4_init_2_0 21 rfl rfl)
theorem dJ4_init_2_22 : decode cJ4_init_2 22 = .ok (.invokeinterface 52 1, 5) := by decide +kernel
theorem dJ4_init_2_27 : decode cJ4_init_2 27 = .ok (.ldc 10, 2) := dk_18 10 (dk_at dksJ4_init_2_1 5 rfl rfl)
theorem dJ4_init_2_29 : decode cJ4_init_2 29 = .ok (.if_acmp .ne 11, 3) := dk_166 0 11 (dk_at dksJ4_init_2_1 7 rfl rfl)
theorem dJ4_init_2_32 : decode cJ4_init_2 32 = .ok (.aload_n 0, 1) := dk_42 (dk_at dksJ4_init_2_1 10 rfl rfl)
theorem dJ4_init_2_33 : decode cJ4_init_2 33 = .ok (.aload_n 2, 1) := dk_44 (dk_at dksJ4_init_2_1 11 rfl rfl)
theorem dJ4_init_2_34 : decode cJ4_init_2 34 = .ok (.putfield 9, 3) := dk_181 0 9 (dk_at dksJ4_init_2_1 12 rfl rfl)
theorem dJ4_init_2_37 : decode cJ4_init_2 37 = .ok (.goto 27, 3) := dk_167 0 27 (dk_at dksJ4_init_2_1 15 rfl rfl)
theorem dJ4_init_2_40 : decode cJ4_init_2 40 = .ok (.aload_n 0, 1) := dk_42 (dk_at dksJ4_init_2_1 18 rfl rfl)
theorem dJ4_init_2_41 : decode cJ4_init_2 41 = .ok (.aload_n 2, 1) := dk_44 (dk_at dksJ4_init_2_1 19 rfl rfl)
theorem dJ4_init_2_42 : decode cJ4_init_2 42 = .ok (.aload_n 0, 1) := dk_42 (dk_at dksJ4_init_2_1 20 rfl rfl)
theorem dJ4_init_2_43 : decode cJ4_init_2 43 = .ok (.getfield 48, 3) := dk_180 0 48 (dk_at dksJ4_init_2_1 21 rfl rfl)
theorem dJ4_init_2_46 : decode cJ4_init_2 46 = .ok (.ldc 56, 2) := dk_18 56 (dk_at dksJ4_init_2_2 0 rfl rfl)
theorem dJ4_init_2_48 : decode cJ4_init_2 48 = .ok (.invokestatic 57, 3) := dk_184 0 57 (dk_at dksJ4_init_2_2 2 rfl rfl)
theorem dJ4_init_2_51 : decode cJ4_init_2 51 = .ok (.putfield 9, 3) := dk_181 0 9 (dk_at dksJ4_init_2_2 5 rfl rfl)
theorem dJ4_init_2_54 : decode cJ4_init_2 54 = .ok (.goto 10, 3) := dk_167 0 10 (dk_at dksJ4_init_2_2 8 rfl rfl)
theorem dJ4_init_2_57 : decode cJ4_init_2 57 = .ok (.aload_n 0, 1) := dk_42 (dk_at dksJ4_init_2_2 11 rfl rfl)
theorem dJ4_init_2_58 : decode cJ4_init_2 58 = .ok (.getstatic 15, 3) := dk_178 0 15 (dk_at dksJ4_init_2_2 12 rfl rfl)
theorem dJ4_init_2_61 : decode cJ4_init_2 61 = .ok (.putfield 9, 3) := dk_181 0 9 (dk_at dksJ4_init_2_2 15 rfl rfl)
theorem dJ4_init_2_64 : decode cJ4_init_2 64 = .ok (.return_, 1) := dk_177 (dk_at dksJ4_init_2_2 18 rfl rfl)
abbrev cJ4_clear : ByteArray := prog_47_method_40_code
def yJ4_clear : MethodName := ⟨RJ4, "clear", "()V"⟩
def dkwJ4_clear_1 : List UInt8 := [181, 0, 48, 62, 29, 28, 162, 0, 13, 43, 29, 1, 83, 132, 3, 1, 167, 255, 244, 177]
abbrev dktJ4_clear_1 : List UInt8 := dkwJ4_clear_1 ++ []
def dkwJ4_clear_0 : List UInt8 := [42, 89, 180, 0, 63, 4, 96, 181, 0, 63, 42, 180, 0, 9, 76, 42, 180, 0, 48, 61, 42, 3, 90]
abbrev dktJ4_clear_0 : List UInt8 := dkwJ4_clear_0 ++ dktJ4_clear_1
theorem dksJ4_clear_0 : cJ4_clear.data.toList.drop 0 = dktJ4_clear_0 := by decide +kernel
theorem dksJ4_clear_1 : cJ4_clear.data.toList.drop 23 = dktJ4_clear_1 := dk_seg dksJ4_clear_0 23 rfl rfl
theorem dJ4_clear_0 : decode cJ4_clear 0 = .ok (.aload_n 0, 1) := dk_42 (dk_at dksJ4_clear_0 0 rfl rfl)
theorem dJ4_clear_1 : decode cJ4_clear 1 = .ok (.dup, 1) := dk_89 (dk_at dksJ4_clear_0 1 rfl rfl)
theorem dJ4_clear_2 : decode cJ4_clear 2 = .ok (.getfield 63, 3) := dk_180 0 63 (dk_at dksJ4_clear_0 2 rfl rfl)
theorem dJ4_clear_5 : decode cJ4_clear 5 = .ok (.iconst 1, 1) := dk_4 (dk_at dksJ4_clear_0 5 rfl rfl)
theorem dJ4_clear_6 : decode cJ4_clear 6 = .ok (.iadd, 1) := dk_96 (dk_at dksJ4_clear_0 6 rfl rfl)
theorem dJ4_clear_7 : decode cJ4_clear 7 = .ok (.putfield 63, 3) := dk_181 0 63 (dk_at dksJ4_clear_0 7 rfl rfl)
theorem dJ4_clear_10 : decode cJ4_clear 10 = .ok (.aload_n 0, 1) := dk_42 (dk_at dksJ4_clear_0 10 rfl rfl)
theorem dJ4_clear_11 : decode cJ4_clear 11 = .ok (.getfield 9, 3) := dk_180 0 9 (dk_at dksJ4_clear_0 11 rfl rfl)
theorem dJ4_clear_14 : decode cJ4_clear 14 = .ok (.astore_n 1, 1) := dk_76 (dk_at dksJ4_clear_0 14 rfl rfl)
theorem dJ4_clear_15 : decode cJ4_clear 15 = .ok (.aload_n 0, 1) := dk_42 (dk_at dksJ4_clear_0 15 rfl rfl)
theorem dJ4_clear_16 : decode cJ4_clear 16 = .ok (.getfield 48, 3) := dk_180 0 48 (dk_at dksJ4_clear_0 16 rfl rfl)
theorem dJ4_clear_19 : decode cJ4_clear 19 = .ok (.istore_n 2, 1) := dk_61 (dk_at dksJ4_clear_0 19 rfl rfl)
theorem dJ4_clear_20 : decode cJ4_clear 20 = .ok (.aload_n 0, 1) := dk_42 (dk_at dksJ4_clear_0 20 rfl rfl)
theorem dJ4_clear_21 : decode cJ4_clear 21 = .ok (.iconst 0, 1) := dk_3 (dk_at dksJ4_clear_0 21 rfl rfl)
theorem dJ4_clear_22 : decode cJ4_clear 22 = .ok (.dup_x1, 1) := dk_90 (dk_at dksJ4_clear_0 22 rfl rfl)
theorem dJ4_clear_23 : decode cJ4_clear 23 = .ok (.putfield 48, 3) := dk_181 0 48 (dk_at dksJ4_clear_1 0 rfl rfl)
theorem dJ4_clear_26 : decode cJ4_clear 26 = .ok (.istore_n 3, 1) := dk_62 (dk_at dksJ4_clear_1 3 rfl rfl)
theorem dJ4_clear_27 : decode cJ4_clear 27 = .ok (.iload_n 3, 1) := dk_29 (dk_at dksJ4_clear_1 4 rfl rfl)
theorem dJ4_clear_28 : decode cJ4_clear 28 = .ok (.iload_n 2, 1) := dk_28 (dk_at dksJ4_clear_1 5 rfl rfl)
theorem dJ4_clear_29 : decode cJ4_clear 29 = .ok (.if_icmp .ge 13, 3) := dk_162 0 13 (dk_at dksJ4_clear_1 6 rfl rfl)
theorem dJ4_clear_32 : decode cJ4_clear 32 = .ok (.aload_n 1, 1) := dk_43 (dk_at dksJ4_clear_1 9 rfl rfl)
theorem dJ4_clear_33 : decode cJ4_clear 33 = .ok (.iload_n 3, 1) := dk_29 (dk_at dksJ4_clear_1 10 rfl rfl)
theorem dJ4_clear_34 : decode cJ4_clear 34 = .ok (.aconst_null, 1) := dk_1 (dk_at dksJ4_clear_1 11 rfl rfl)
theorem dJ4_clear_35 : decode cJ4_clear 35 = .ok (.aastore, 1) := dk_83 (dk_at dksJ4_clear_1 12 rfl rfl)
theorem dJ4_clear_36 : decode cJ4_clear 36 = .ok (.iinc 3 1, 3) := dk_132 3 1 (dk_at dksJ4_clear_1 13 rfl rfl)
theorem dJ4_clear_39 : decode cJ4_clear 39 = .ok (.goto (-12), 3) := dk_167 255 244 (dk_at dksJ4_clear_1 16 rfl rfl)
theorem dJ4_clear_42 : decode cJ4_clear 42 = .ok (.return_, 1) := dk_177 (dk_at dksJ4_clear_1 19 rfl rfl)
theorem q102 : (Jvm.Cond.initialized "java/util/ArrayList") ∈ lw_all := lw_g (lw_at lw_m1 9 rfl) rfl
theorem q250 : (Jvm.Cond.instantiable "java/util/ArrayList" (3 : Nat)) ∈ lw_all := lw_g (lw_at lw_m1 157 rfl) rfl
theorem q252 : (Jvm.Cond.instanceMethod ({ cls := "java/util/ArrayList", name := "<init>", desc := "()V" } : Jvm.MethodName)) ∈ lw_all := lw_g (lw_at lw_m1 159 rfl) rfl
theorem q253 : (Jvm.Cond.code ({ cls := "java/util/ArrayList", name := "<init>", desc := "()V" } : Jvm.MethodName) prog_47_method_2_code (1 : Nat) (Option.none : Option Jvm.ClassFile.FieldType)) ∈ lw_all := lw_g (lw_at lw_m1 160 rfl) rfl
theorem q254 : (Jvm.Cond.methodLink "java/util/ArrayList" (1 : Nat) ({ cls := "java/util/AbstractList", name := "<init>", desc := "()V" } : Jvm.MethodName)) ∈ lw_all := lw_g (lw_at lw_m1 161 rfl) rfl
theorem q261 : (Jvm.Cond.fieldLink "java/util/ArrayList" (39 : Nat) "java/util/ArrayList" "DEFAULTCAPACITY_EMPTY_ELEMENTDATA" "[Ljava/lang/Object;") ∈ lw_all := lw_g (lw_at lw_m1 168 rfl) rfl
theorem q262 : (Jvm.Cond.laysStatic "java/util/ArrayList" "DEFAULTCAPACITY_EMPTY_ELEMENTDATA" "[Ljava/lang/Object;") ∈ lw_tbl := lw_at lw_m1 169 rfl
theorem q263 : (Jvm.Cond.fieldLink "java/util/ArrayList" (9 : Nat) "java/util/ArrayList" "elementData" "[Ljava/lang/Object;") ∈ lw_all := lw_g (lw_at lw_m1 170 rfl) rfl
theorem q266 : (Jvm.Cond.fieldLink "java/util/ArrayList" (48 : Nat) "java/util/ArrayList" "size" "I") ∈ lw_all := lw_g (lw_at lw_m1 173 rfl) rfl
theorem q269 : (Jvm.Cond.sameField "java/util/ArrayList" "java/util/AbstractList" "modCount" "I") ∈ lw_all := lw_g (lw_at lw_m1 176 rfl) rfl
theorem q270 : (Jvm.Cond.fieldLink "java/util/ArrayList" (63 : Nat) "java/util/ArrayList" "modCount" "I") ∈ lw_all := lw_g (lw_at lw_m1 177 rfl) rfl
theorem q271 : (Jvm.Cond.lays "java/util/ArrayList" "java/util/ArrayList" "elementData" "[Ljava/lang/Object;") ∈ lw_all := lw_g (lw_at lw_m1 178 rfl) rfl
theorem q272 : (Jvm.Cond.soleField "java/util/ArrayList" "elementData") ∈ lw_all := lw_g (lw_at lw_m1 179 rfl) rfl
theorem q273 : (Jvm.Cond.lays "java/util/ArrayList" "java/util/ArrayList" "size" "I") ∈ lw_all := lw_g (lw_at lw_m1 180 rfl) rfl
theorem q274 : (Jvm.Cond.soleField "java/util/ArrayList" "size") ∈ lw_all := lw_g (lw_at lw_m1 181 rfl) rfl
theorem q275 : (Jvm.Cond.lays "java/util/ArrayList" "java/util/AbstractList" "modCount" "I") ∈ lw_all := lw_g (lw_at lw_m1 182 rfl) rfl
theorem q277 : (Jvm.Cond.superclass "java/util/ArrayList" "java/util/AbstractList") ∈ lw_all := lw_g (lw_at lw_m1 184 rfl) rfl
theorem q1384 : (Jvm.Cond.castable "java/util/ArrayList" "java/util/List") ∈ lw_tbl := lw_at lw_m6 91 rfl
theorem q1385 : (Jvm.Cond.selects "java/util/ArrayList" ({ cls := "java/util/List", name := "size", desc := "()I" } : Jvm.MethodName) ({ cls := "java/util/ArrayList", name := "size", desc := "()I" } : Jvm.MethodName)) ∈ lw_all := lw_g (lw_at lw_m6 92 rfl) rfl
theorem q1386 : (Jvm.Cond.unhidden "java/util/ArrayList" "size" "()I") ∈ lw_tbl := lw_at lw_m6 93 rfl
theorem q1387 : (Jvm.Cond.instanceMethod ({ cls := "java/util/ArrayList", name := "size", desc := "()I" } : Jvm.MethodName)) ∈ lw_all := lw_g (lw_at lw_m6 94 rfl) rfl
theorem q1388 : (Jvm.Cond.publicMethod ({ cls := "java/util/ArrayList", name := "size", desc := "()I" } : Jvm.MethodName)) ∈ lw_tbl := lw_at lw_m6 95 rfl
theorem q1389 : (Jvm.Cond.code ({ cls := "java/util/ArrayList", name := "size", desc := "()I" } : Jvm.MethodName) prog_47_method_8_code (1 : Nat) (Option.some Jvm.ClassFile.FieldType.int)) ∈ lw_all := lw_g (lw_at lw_m6 96 rfl) rfl
theorem q1396 : (Jvm.Cond.selects "java/util/ArrayList" ({ cls := "java/util/List", name := "add", desc := "(Ljava/lang/Object;)Z" } : Jvm.MethodName) ({ cls := "java/util/ArrayList", name := "add", desc := "(Ljava/lang/Object;)Z" } : Jvm.MethodName)) ∈ lw_all := lw_g (lw_at lw_m6 103 rfl) rfl
theorem q1397 : (Jvm.Cond.unhidden "java/util/ArrayList" "add" "(Ljava/lang/Object;)Z") ∈ lw_tbl := lw_at lw_m6 104 rfl
theorem q1398 : (Jvm.Cond.instanceMethod ({ cls := "java/util/ArrayList", name := "add", desc := "(Ljava/lang/Object;)Z" } : Jvm.MethodName)) ∈ lw_all := lw_g (lw_at lw_m6 105 rfl) rfl
theorem q1399 : (Jvm.Cond.publicMethod ({ cls := "java/util/ArrayList", name := "add", desc := "(Ljava/lang/Object;)Z" } : Jvm.MethodName)) ∈ lw_tbl := lw_at lw_m6 106 rfl
theorem q1400 : (Jvm.Cond.code ({ cls := "java/util/ArrayList", name := "add", desc := "(Ljava/lang/Object;)Z" } : Jvm.MethodName) prog_47_method_25_code (2 : Nat) (Option.some Jvm.ClassFile.FieldType.boolean)) ∈ lw_all := lw_g (lw_at lw_m6 107 rfl) rfl
theorem q1401 : (Jvm.Cond.methodLink "java/util/ArrayList" (131 : Nat) ({ cls := "java/util/ArrayList", name := "add", desc := "(Ljava/lang/Object;[Ljava/lang/Object;I)V" } : Jvm.MethodName)) ∈ lw_all := lw_g (lw_at lw_m6 108 rfl) rfl
theorem q1402 : (Jvm.Cond.privateMethod ({ cls := "java/util/ArrayList", name := "add", desc := "(Ljava/lang/Object;[Ljava/lang/Object;I)V" } : Jvm.MethodName)) ∈ lw_tbl := lw_at lw_m6 109 rfl
theorem q1403 : (Jvm.Cond.instanceMethod ({ cls := "java/util/ArrayList", name := "add", desc := "(Ljava/lang/Object;[Ljava/lang/Object;I)V" } : Jvm.MethodName)) ∈ lw_all := lw_g (lw_at lw_m6 110 rfl) rfl
theorem q1404 : (Jvm.Cond.code ({ cls := "java/util/ArrayList", name := "add", desc := "(Ljava/lang/Object;[Ljava/lang/Object;I)V" } : Jvm.MethodName) prog_47_method_24_code (4 : Nat) (Option.none : Option Jvm.ClassFile.FieldType)) ∈ lw_all := lw_g (lw_at lw_m6 111 rfl) rfl
theorem q1405 : (Jvm.Cond.methodLink "java/util/ArrayList" (129 : Nat) ({ cls := "java/util/ArrayList", name := "grow", desc := "()[Ljava/lang/Object;" } : Jvm.MethodName)) ∈ lw_all := lw_g (lw_at lw_m6 112 rfl) rfl
theorem q1406 : (Jvm.Cond.privateMethod ({ cls := "java/util/ArrayList", name := "grow", desc := "()[Ljava/lang/Object;" } : Jvm.MethodName)) ∈ lw_tbl := lw_at lw_m6 113 rfl
theorem q1407 : (Jvm.Cond.instanceMethod ({ cls := "java/util/ArrayList", name := "grow", desc := "()[Ljava/lang/Object;" } : Jvm.MethodName)) ∈ lw_all := lw_g (lw_at lw_m6 114 rfl) rfl
theorem q1408 : (Jvm.Cond.code ({ cls := "java/util/ArrayList", name := "grow", desc := "()[Ljava/lang/Object;" } : Jvm.MethodName) prog_47_method_7_code (1 : Nat) (Option.some (Jvm.ClassFile.FieldType.array (Jvm.ClassFile.FieldType.object "java/lang/Object")))) ∈ lw_all := lw_g (lw_at lw_m6 115 rfl) rfl
theorem q1409 : (Jvm.Cond.methodLink "java/util/ArrayList" (69 : Nat) ({ cls := "java/util/ArrayList", name := "grow", desc := "(I)[Ljava/lang/Object;" } : Jvm.MethodName)) ∈ lw_all := lw_g (lw_at lw_m6 116 rfl) rfl
theorem q1410 : (Jvm.Cond.privateMethod ({ cls := "java/util/ArrayList", name := "grow", desc := "(I)[Ljava/lang/Object;" } : Jvm.MethodName)) ∈ lw_tbl := lw_at lw_m6 117 rfl
theorem q1411 : (Jvm.Cond.instanceMethod ({ cls := "java/util/ArrayList", name := "grow", desc := "(I)[Ljava/lang/Object;" } : Jvm.MethodName)) ∈ lw_all := lw_g (lw_at lw_m6 118 rfl) rfl
theorem q1412 : (Jvm.Cond.code ({ cls := "java/util/ArrayList", name := "grow", desc := "(I)[Ljava/lang/Object;" } : Jvm.MethodName) prog_47_method_6_code (4 : Nat) (Option.some (Jvm.ClassFile.FieldType.array (Jvm.ClassFile.FieldType.object "java/lang/Object")))) ∈ lw_all := lw_g (lw_at lw_m6 119 rfl) rfl
theorem q1413 : (Jvm.Cond.methodLink "java/util/ArrayList" (73 : Nat) ({ cls := "jdk/internal/util/ArraysSupport", name := "newLength", desc := "(III)I" } : Jvm.MethodName)) ∈ lw_all := lw_g (lw_at lw_m6 120 rfl) rfl
theorem q1421 : (Jvm.Cond.methodLink "java/util/ArrayList" (66 : Nat) ({ cls := "java/util/Arrays", name := "copyOf", desc := "([Ljava/lang/Object;I)[Ljava/lang/Object;" } : Jvm.MethodName)) ∈ lw_all := lw_g (lw_at lw_m6 128 rfl) rfl
theorem q1445 : (Jvm.Cond.selects "java/util/ArrayList" ({ cls := "java/lang/Object", name := "getClass", desc := "()Ljava/lang/Class;" } : Jvm.MethodName) ({ cls := "java/lang/Object", name := "getClass", desc := "()Ljava/lang/Class;" } : Jvm.MethodName)) ∈ lw_all := lw_g (lw_at lw_m6 152 rfl) rfl
theorem q1472 : (Jvm.Cond.methodLink "java/util/ArrayList" (79 : Nat) ({ cls := "java/lang/Math", name := "max", desc := "(II)I" } : Jvm.MethodName)) ∈ lw_all := lw_g (lw_at lw_m6 179 rfl) rfl
theorem q1473 : (Jvm.Cond.classLink "java/util/ArrayList" (7 : Nat) "java/lang/Object") ∈ lw_all := lw_g (lw_at lw_m6 180 rfl) rfl
theorem q1488 : (Jvm.Cond.selects "java/util/ArrayList" ({ cls := "java/util/List", name := "iterator", desc := "()Ljava/util/Iterator;" } : Jvm.MethodName) ({ cls := "java/util/ArrayList", name := "iterator", desc := "()Ljava/util/Iterator;" } : Jvm.MethodName)) ∈ lw_all := lw_g (lw_at lw_m6 195 rfl) rfl
theorem q1489 : (Jvm.Cond.unhidden "java/util/ArrayList" "iterator" "()Ljava/util/Iterator;") ∈ lw_tbl := lw_at lw_m6 196 rfl
theorem q1490 : (Jvm.Cond.instanceMethod ({ cls := "java/util/ArrayList", name := "iterator", desc := "()Ljava/util/Iterator;" } : Jvm.MethodName)) ∈ lw_all := lw_g (lw_at lw_m6 197 rfl) rfl
theorem q1491 : (Jvm.Cond.publicMethod ({ cls := "java/util/ArrayList", name := "iterator", desc := "()Ljava/util/Iterator;" } : Jvm.MethodName)) ∈ lw_tbl := lw_at lw_m6 198 rfl
theorem q1492 : (Jvm.Cond.code ({ cls := "java/util/ArrayList", name := "iterator", desc := "()Ljava/util/Iterator;" } : Jvm.MethodName) prog_47_method_55_code (1 : Nat) (Option.some (Jvm.ClassFile.FieldType.object "java/util/Iterator"))) ∈ lw_all := lw_g (lw_at lw_m6 199 rfl) rfl
theorem q1493 : (Jvm.Cond.classLink "java/util/ArrayList" (267 : Nat) "java/util/ArrayList$Itr") ∈ lw_all := lw_g (lw_at lw_m6 200 rfl) rfl
theorem q1495 : (Jvm.Cond.methodLink "java/util/ArrayList" (269 : Nat) ({ cls := "java/util/ArrayList$Itr", name := "<init>", desc := "(Ljava/util/ArrayList;)V" } : Jvm.MethodName)) ∈ lw_all := lw_g (lw_at lw_m6 202 rfl) rfl
theorem q1653 : (Jvm.Cond.selects "java/util/ArrayList" ({ cls := "java/util/List", name := "equals", desc := "(Ljava/lang/Object;)Z" } : Jvm.MethodName) ({ cls := "java/util/ArrayList", name := "equals", desc := "(Ljava/lang/Object;)Z" } : Jvm.MethodName)) ∈ lw_all := lw_g (lw_at lw_m7 120 rfl) rfl
theorem q1654 : (Jvm.Cond.unhidden "java/util/ArrayList" "equals" "(Ljava/lang/Object;)Z") ∈ lw_tbl := lw_at lw_m7 121 rfl
theorem q1655 : (Jvm.Cond.instanceMethod ({ cls := "java/util/ArrayList", name := "equals", desc := "(Ljava/lang/Object;)Z" } : Jvm.MethodName)) ∈ lw_all := lw_g (lw_at lw_m7 122 rfl) rfl
theorem q1656 : (Jvm.Cond.publicMethod ({ cls := "java/util/ArrayList", name := "equals", desc := "(Ljava/lang/Object;)Z" } : Jvm.MethodName)) ∈ lw_tbl := lw_at lw_m7 123 rfl
theorem q1657 : (Jvm.Cond.code ({ cls := "java/util/ArrayList", name := "equals", desc := "(Ljava/lang/Object;)Z" } : Jvm.MethodName) prog_47_method_32_code (4 : Nat) (Option.some Jvm.ClassFile.FieldType.boolean)) ∈ lw_all := lw_g (lw_at lw_m7 124 rfl) rfl
theorem q1658 : (Jvm.Cond.classLink "java/util/ArrayList" (148 : Nat) "java/util/List") ∈ lw_all := lw_g (lw_at lw_m7 125 rfl) rfl
theorem q1659 : (Jvm.Cond.methodLink "java/util/ArrayList" (111 : Nat) ({ cls := "java/lang/Object", name := "getClass", desc := "()Ljava/lang/Class;" } : Jvm.MethodName)) ∈ lw_all := lw_g (lw_at lw_m7 126 rfl) rfl
theorem q1660 : (Jvm.Cond.classLink "java/util/ArrayList" (10 : Nat) "java/util/ArrayList") ∈ lw_all := lw_g (lw_at lw_m7 127 rfl) rfl
theorem q1661 : (Jvm.Cond.methodLink "java/util/ArrayList" (150 : Nat) ({ cls := "java/util/ArrayList", name := "equalsArrayList", desc := "(Ljava/util/ArrayList;)Z" } : Jvm.MethodName)) ∈ lw_all := lw_g (lw_at lw_m7 128 rfl) rfl
theorem q1662 : (Jvm.Cond.privateMethod ({ cls := "java/util/ArrayList", name := "equalsArrayList", desc := "(Ljava/util/ArrayList;)Z" } : Jvm.MethodName)) ∈ lw_tbl := lw_at lw_m7 129 rfl
theorem q1663 : (Jvm.Cond.instanceMethod ({ cls := "java/util/ArrayList", name := "equalsArrayList", desc := "(Ljava/util/ArrayList;)Z" } : Jvm.MethodName)) ∈ lw_all := lw_g (lw_at lw_m7 130 rfl) rfl
theorem q1664 : (Jvm.Cond.code ({ cls := "java/util/ArrayList", name := "equalsArrayList", desc := "(Ljava/util/ArrayList;)Z" } : Jvm.MethodName) prog_47_method_34_code (8 : Nat) (Option.some Jvm.ClassFile.FieldType.boolean)) ∈ lw_all := lw_g (lw_at lw_m7 131 rfl) rfl
theorem q1665 : (Jvm.Cond.methodLink "java/util/ArrayList" (177 : Nat) ({ cls := "java/util/Objects", name := "equals", desc := "(Ljava/lang/Object;Ljava/lang/Object;)Z" } : Jvm.MethodName)) ∈ lw_all := lw_g (lw_at lw_m7 132 rfl) rfl
theorem q1703 : (Jvm.Cond.methodLink "java/util/ArrayList" (158 : Nat) ({ cls := "java/util/ArrayList", name := "checkForComodification", desc := "(I)V" } : Jvm.MethodName)) ∈ lw_all := lw_g (lw_at lw_m7 170 rfl) rfl
theorem q1704 : (Jvm.Cond.privateMethod ({ cls := "java/util/ArrayList", name := "checkForComodification", desc := "(I)V" } : Jvm.MethodName)) ∈ lw_tbl := lw_at lw_m7 171 rfl
theorem q1705 : (Jvm.Cond.instanceMethod ({ cls := "java/util/ArrayList", name := "checkForComodification", desc := "(I)V" } : Jvm.MethodName)) ∈ lw_all := lw_g (lw_at lw_m7 172 rfl) rfl
theorem q1706 : (Jvm.Cond.code ({ cls := "java/util/ArrayList", name := "checkForComodification", desc := "(I)V" } : Jvm.MethodName) prog_47_method_35_code (2 : Nat) (Option.none : Option Jvm.ClassFile.FieldType)) ∈ lw_all := lw_g (lw_at lw_m7 173 rfl) rfl
theorem q1707 : (Jvm.Cond.methodLink "java/util/ArrayList" (154 : Nat) ({ cls := "java/util/ArrayList", name := "equalsRange", desc := "(Ljava/util/List;II)Z" } : Jvm.MethodName)) ∈ lw_all := lw_g (lw_at lw_m7 174 rfl) rfl
theorem q1708 : (Jvm.Cond.instanceMethod ({ cls := "java/util/ArrayList", name := "equalsRange", desc := "(Ljava/util/List;II)Z" } : Jvm.MethodName)) ∈ lw_all := lw_g (lw_at lw_m7 175 rfl) rfl
theorem q1709 : (Jvm.Cond.selects "java/util/ArrayList" ({ cls := "java/util/ArrayList", name := "equalsRange", desc := "(Ljava/util/List;II)Z" } : Jvm.MethodName) ({ cls := "java/util/ArrayList", name := "equalsRange", desc := "(Ljava/util/List;II)Z" } : Jvm.MethodName)) ∈ lw_all := lw_g (lw_at lw_m7 176 rfl) rfl
theorem q1710 : (Jvm.Cond.code ({ cls := "java/util/ArrayList", name := "equalsRange", desc := "(Ljava/util/List;II)Z" } : Jvm.MethodName) prog_47_method_33_code (6 : Nat) (Option.some Jvm.ClassFile.FieldType.boolean)) ∈ lw_all := lw_g (lw_at lw_m7 177 rfl) rfl
theorem q1711 : (Jvm.Cond.interfaceEntry "java/util/ArrayList" (164 : Nat)) ∈ lw_tbl := lw_at lw_m7 178 rfl
theorem q1712 : (Jvm.Cond.methodLink "java/util/ArrayList" (164 : Nat) ({ cls := "java/util/List", name := "iterator", desc := "()Ljava/util/Iterator;" } : Jvm.MethodName)) ∈ lw_all := lw_g (lw_at lw_m7 179 rfl) rfl
theorem q1713 : (Jvm.Cond.interfaceEntry "java/util/ArrayList" (168 : Nat)) ∈ lw_tbl := lw_at lw_m7 180 rfl
theorem q1714 : (Jvm.Cond.methodLink "java/util/ArrayList" (168 : Nat) ({ cls := "java/util/Iterator", name := "hasNext", desc := "()Z" } : Jvm.MethodName)) ∈ lw_all := lw_g (lw_at lw_m7 181 rfl) rfl
theorem q1715 : (Jvm.Cond.interfaceEntry "java/util/ArrayList" (174 : Nat)) ∈ lw_tbl := lw_at lw_m7 182 rfl
theorem q1716 : (Jvm.Cond.methodLink "java/util/ArrayList" (174 : Nat) ({ cls := "java/util/Iterator", name := "next", desc := "()Ljava/lang/Object;" } : Jvm.MethodName)) ∈ lw_all := lw_g (lw_at lw_m7 183 rfl) rfl
theorem q1731 : (Jvm.Cond.selects "java/util/ArrayList" ({ cls := "java/util/List", name := "get", desc := "(I)Ljava/lang/Object;" } : Jvm.MethodName) ({ cls := "java/util/ArrayList", name := "get", desc := "(I)Ljava/lang/Object;" } : Jvm.MethodName)) ∈ lw_all := lw_g (lw_at lw_m7 198 rfl) rfl
theorem q1732 : (Jvm.Cond.unhidden "java/util/ArrayList" "get" "(I)Ljava/lang/Object;") ∈ lw_tbl := lw_at lw_m7 199 rfl
theorem q1733 : (Jvm.Cond.instanceMethod ({ cls := "java/util/ArrayList", name := "get", desc := "(I)Ljava/lang/Object;" } : Jvm.MethodName)) ∈ lw_all := lw_g (lw_at lw_m7 200 rfl) rfl
theorem q1734 : (Jvm.Cond.publicMethod ({ cls := "java/util/ArrayList", name := "get", desc := "(I)Ljava/lang/Object;" } : Jvm.MethodName)) ∈ lw_tbl := lw_at lw_m7 201 rfl
theorem q1735 : (Jvm.Cond.code ({ cls := "java/util/ArrayList", name := "get", desc := "(I)Ljava/lang/Object;" } : Jvm.MethodName) prog_47_method_20_code (2 : Nat) (Option.some (Jvm.ClassFile.FieldType.object "java/lang/Object"))) ∈ lw_all := lw_g (lw_at lw_m7 202 rfl) rfl
theorem q1736 : (Jvm.Cond.methodLink "java/util/ArrayList" (118 : Nat) ({ cls := "java/util/Objects", name := "checkIndex", desc := "(II)I" } : Jvm.MethodName)) ∈ lw_all := lw_g (lw_at lw_m7 203 rfl) rfl
theorem q1742 : (Jvm.Cond.methodLink "java/util/ArrayList" (123 : Nat) ({ cls := "java/util/ArrayList", name := "elementData", desc := "(I)Ljava/lang/Object;" } : Jvm.MethodName)) ∈ lw_all := lw_g (lw_at lw_m7 209 rfl) rfl
theorem q1743 : (Jvm.Cond.instanceMethod ({ cls := "java/util/ArrayList", name := "elementData", desc := "(I)Ljava/lang/Object;" } : Jvm.MethodName)) ∈ lw_all := lw_g (lw_at lw_m7 210 rfl) rfl
theorem q1744 : (Jvm.Cond.selects "java/util/ArrayList" ({ cls := "java/util/ArrayList", name := "elementData", desc := "(I)Ljava/lang/Object;" } : Jvm.MethodName) ({ cls := "java/util/ArrayList", name := "elementData", desc := "(I)Ljava/lang/Object;" } : Jvm.MethodName)) ∈ lw_all := lw_g (lw_at lw_m7 211 rfl) rfl
theorem q1745 : (Jvm.Cond.code ({ cls := "java/util/ArrayList", name := "elementData", desc := "(I)Ljava/lang/Object;" } : Jvm.MethodName) prog_47_method_18_code (2 : Nat) (Option.some (Jvm.ClassFile.FieldType.object "java/lang/Object"))) ∈ lw_all := lw_g (lw_at lw_m7 212 rfl) rfl
theorem q1804 : (Jvm.Cond.castable "java/util/ArrayList" "java/util/Collection") ∈ lw_tbl := lw_at lw_m8 31 rfl
theorem q1805 : (Jvm.Cond.selects "java/util/ArrayList" ({ cls := "java/util/Collection", name := "iterator", desc := "()Ljava/util/Iterator;" } : Jvm.MethodName) ({ cls := "java/util/ArrayList", name := "iterator", desc := "()Ljava/util/Iterator;" } : Jvm.MethodName)) ∈ lw_all := lw_g (lw_at lw_m8 32 rfl) rfl
theorem q2006 : (Jvm.Cond.selects "java/util/ArrayList" ({ cls := "java/util/List", name := "addAll", desc := "(Ljava/util/Collection;)Z" } : Jvm.MethodName) ({ cls := "java/util/ArrayList", name := "addAll", desc := "(Ljava/util/Collection;)Z" } : Jvm.MethodName)) ∈ lw_all := lw_g (lw_at lw_m8 233 rfl) rfl
theorem q2007 : (Jvm.Cond.unhidden "java/util/ArrayList" "addAll" "(Ljava/util/Collection;)Z") ∈ lw_tbl := lw_at lw_m8 234 rfl
theorem q2008 : (Jvm.Cond.instanceMethod ({ cls := "java/util/ArrayList", name := "addAll", desc := "(Ljava/util/Collection;)Z" } : Jvm.MethodName)) ∈ lw_all := lw_g (lw_at lw_m8 235 rfl) rfl
theorem q2009 : (Jvm.Cond.publicMethod ({ cls := "java/util/ArrayList", name := "addAll", desc := "(Ljava/util/Collection;)Z" } : Jvm.MethodName)) ∈ lw_tbl := lw_at lw_m8 236 rfl
theorem q2010 : (Jvm.Cond.code ({ cls := "java/util/ArrayList", name := "addAll", desc := "(Ljava/util/Collection;)Z" } : Jvm.MethodName) prog_47_method_41_code (6 : Nat) (Option.some Jvm.ClassFile.FieldType.boolean)) ∈ lw_all := lw_g (lw_at lw_m8 237 rfl) rfl
theorem q2011 : (Jvm.Cond.interfaceEntry "java/util/ArrayList" (42 : Nat)) ∈ lw_tbl := lw_at lw_m8 238 rfl
theorem q2012 : (Jvm.Cond.methodLink "java/util/ArrayList" (42 : Nat) ({ cls := "java/util/Collection", name := "toArray", desc := "()[Ljava/lang/Object;" } : Jvm.MethodName)) ∈ lw_all := lw_g (lw_at lw_m8 239 rfl) rfl
theorem q2015 : (Jvm.Cond.selects "java/util/ArrayList" ({ cls := "java/util/Collection", name := "toArray", desc := "()[Ljava/lang/Object;" } : Jvm.MethodName) ({ cls := "java/util/ArrayList", name := "toArray", desc := "()[Ljava/lang/Object;" } : Jvm.MethodName)) ∈ lw_all := lw_g (lw_at lw_m9 2 rfl) rfl
theorem q2016 : (Jvm.Cond.unhidden "java/util/ArrayList" "toArray" "()[Ljava/lang/Object;") ∈ lw_tbl := lw_at lw_m9 3 rfl
theorem q2017 : (Jvm.Cond.instanceMethod ({ cls := "java/util/ArrayList", name := "toArray", desc := "()[Ljava/lang/Object;" } : Jvm.MethodName)) ∈ lw_all := lw_g (lw_at lw_m9 4 rfl) rfl
theorem q2018 : (Jvm.Cond.publicMethod ({ cls := "java/util/ArrayList", name := "toArray", desc := "()[Ljava/lang/Object;" } : Jvm.MethodName)) ∈ lw_tbl := lw_at lw_m9 5 rfl
theorem q2019 : (Jvm.Cond.code ({ cls := "java/util/ArrayList", name := "toArray", desc := "()[Ljava/lang/Object;" } : Jvm.MethodName) prog_47_method_16_code (1 : Nat) (Option.some (Jvm.ClassFile.FieldType.array (Jvm.ClassFile.FieldType.object "java/lang/Object")))) ∈ lw_all := lw_g (lw_at lw_m9 6 rfl) rfl
theorem q2034 : (Jvm.Cond.selects "java/util/ArrayList" ({ cls := "java/util/AbstractCollection", name := "size", desc := "()I" } : Jvm.MethodName) ({ cls := "java/util/ArrayList", name := "size", desc := "()I" } : Jvm.MethodName)) ∈ lw_all := lw_g (lw_at lw_m9 21 rfl) rfl
theorem q2062 : (Jvm.Cond.methodLink "java/util/ArrayList" (112 : Nat) ({ cls := "java/lang/System", name := "arraycopy", desc := "(Ljava/lang/Object;ILjava/lang/Object;II)V" } : Jvm.MethodName)) ∈ lw_all := lw_g (lw_at lw_m9 49 rfl) rfl
theorem q2479 : (Jvm.Cond.instanceMethod ({ cls := "java/util/ArrayList", name := "<init>", desc := "(Ljava/util/Collection;)V" } : Jvm.MethodName)) ∈ lw_all := lw_g (lw_at lw_m10 226 rfl) rfl
theorem q2480 : (Jvm.Cond.code ({ cls := "java/util/ArrayList", name := "<init>", desc := "(Ljava/util/Collection;)V" } : Jvm.MethodName) prog_47_method_3_code (3 : Nat) (Option.none : Option Jvm.ClassFile.FieldType)) ∈ lw_all := lw_g (lw_at lw_m10 227 rfl) rfl
theorem q2481 : (Jvm.Cond.interfaceEntry "java/util/ArrayList" (52 : Nat)) ∈ lw_tbl := lw_at lw_m10 228 rfl
theorem q2482 : (Jvm.Cond.methodLink "java/util/ArrayList" (52 : Nat) ({ cls := "java/util/Collection", name := "getClass", desc := "()Ljava/lang/Class;" } : Jvm.MethodName)) ∈ lw_all := lw_g (lw_at lw_m10 229 rfl) rfl
theorem q2485 : (Jvm.Cond.unhidden "java/util/ArrayList" "getClass" "()Ljava/lang/Class;") ∈ lw_tbl := lw_at lw_m10 232 rfl
theorem q2492 : (Jvm.Cond.classLink "java/util/ArrayList" (56 : Nat) "[Ljava/lang/Object;") ∈ lw_all := lw_g (lw_at lw_m10 239 rfl) rfl
theorem q2493 : (Jvm.Cond.methodLink "java/util/ArrayList" (57 : Nat) ({ cls := "java/util/Arrays", name := "copyOf", desc := "([Ljava/lang/Object;ILjava/lang/Class;)[Ljava/lang/Object;" } : Jvm.MethodName)) ∈ lw_all := lw_g (lw_at lw_m11 0 rfl) rfl
theorem q2494 : (Jvm.Cond.fieldLink "java/util/ArrayList" (15 : Nat) "java/util/ArrayList" "EMPTY_ELEMENTDATA" "[Ljava/lang/Object;") ∈ lw_all := lw_g (lw_at lw_m11 1 rfl) rfl
theorem q2495 : (Jvm.Cond.laysStatic "java/util/ArrayList" "EMPTY_ELEMENTDATA" "[Ljava/lang/Object;") ∈ lw_tbl := lw_at lw_m11 2 rfl
theorem q2540 : (Jvm.Cond.selects "java/util/ArrayList" ({ cls := "java/util/List", name := "clear", desc := "()V" } : Jvm.MethodName) ({ cls := "java/util/ArrayList", name := "clear", desc := "()V" } : Jvm.MethodName)) ∈ lw_all := lw_g (lw_at lw_m11 47 rfl) rfl
theorem q2541 : (Jvm.Cond.unhidden "java/util/ArrayList" "clear" "()V") ∈ lw_tbl := lw_at lw_m11 48 rfl
theorem q2542 : (Jvm.Cond.instanceMethod ({ cls := "java/util/ArrayList", name := "clear", desc := "()V" } : Jvm.MethodName)) ∈ lw_all := lw_g (lw_at lw_m11 49 rfl) rfl
theorem q2543 : (Jvm.Cond.publicMethod ({ cls := "java/util/ArrayList", name := "clear", desc := "()V" } : Jvm.MethodName)) ∈ lw_tbl := lw_at lw_m11 50 rfl
theorem q2544 : (Jvm.Cond.code ({ cls := "java/util/ArrayList", name := "clear", desc := "()V" } : Jvm.MethodName) prog_47_method_40_code (4 : Nat) (Option.none : Option Jvm.ClassFile.FieldType)) ∈ lw_all := lw_g (lw_at lw_m11 51 rfl) rfl
theorem q3095 : (Jvm.Cond.selects "java/util/ArrayList" ({ cls := "java/util/AbstractCollection", name := "iterator", desc := "()Ljava/util/Iterator;" } : Jvm.MethodName) ({ cls := "java/util/ArrayList", name := "iterator", desc := "()Ljava/util/Iterator;" } : Jvm.MethodName)) ∈ lw_all := lw_g (lw_at lw_m13 122 rfl) rfl
theorem q3112 : (Jvm.Cond.castable "java/util/ArrayList" "java/lang/Object") ∈ lw_tbl := lw_at lw_m13 139 rfl
theorem in_J4 : ∀ w ∈ wsJ40, w ∈ lw_all := lw_in wsJ40 [275, 271, 273] (by decide +kernel) (by decide +kernel)

/-! java/util/AbstractSet -/
set_option maxRecDepth 100000
def RJ5 : String := "java/util/AbstractSet"
abbrev cJ5_init : ByteArray := prog_45_method_1_code
def yJ5_init : MethodName := ⟨RJ5, "<init>", "()V"⟩
theorem dJ5_init_0 : decode cJ5_init 0 = .ok (.aload_n 0, 1) := by decide +kernel
theorem dJ5_init_1 : decode cJ5_init 1 = .ok (.invokespecial 1, 3) := by decide +kernel
theorem dJ5_init_4 : decode cJ5_init 4 = .ok (.return_, 1) := by decide +kernel
theorem q104 : (Jvm.Cond.initialized "java/util/AbstractSet") ∈ lw_all := lw_g (lw_at lw_m1 11 rfl) rfl
theorem q321 : (Jvm.Cond.instanceMethod ({ cls := "java/util/AbstractSet", name := "<init>", desc := "()V" } : Jvm.MethodName)) ∈ lw_all := lw_g (lw_at lw_m1 228 rfl) rfl
theorem q322 : (Jvm.Cond.code ({ cls := "java/util/AbstractSet", name := "<init>", desc := "()V" } : Jvm.MethodName) prog_45_method_1_code (1 : Nat) (Option.none : Option Jvm.ClassFile.FieldType)) ∈ lw_all := lw_g (lw_at lw_m1 229 rfl) rfl
theorem q323 : (Jvm.Cond.methodLink "java/util/AbstractSet" (1 : Nat) ({ cls := "java/util/AbstractCollection", name := "<init>", desc := "()V" } : Jvm.MethodName)) ∈ lw_all := lw_g (lw_at lw_m1 230 rfl) rfl

/-! java/lang/Number -/
set_option maxRecDepth 100000
def RJ7 : String := "java/lang/Number"
abbrev cJ7_init : ByteArray := prog_31_method_1_code
def yJ7_init : MethodName := ⟨RJ7, "<init>", "()V"⟩
theorem dJ7_init_0 : decode cJ7_init 0 = .ok (.aload_n 0, 1) := by decide +kernel
theorem dJ7_init_1 : decode cJ7_init 1 = .ok (.invokespecial 1, 3) := by decide +kernel
theorem dJ7_init_4 : decode cJ7_init 4 = .ok (.return_, 1) := by decide +kernel
theorem q108 : (Jvm.Cond.initialized "java/lang/Number") ∈ lw_all := lw_g (lw_at lw_m1 15 rfl) rfl
theorem q1360 : (Jvm.Cond.instanceMethod ({ cls := "java/lang/Number", name := "<init>", desc := "()V" } : Jvm.MethodName)) ∈ lw_all := lw_g (lw_at lw_m6 67 rfl) rfl
theorem q1361 : (Jvm.Cond.code ({ cls := "java/lang/Number", name := "<init>", desc := "()V" } : Jvm.MethodName) prog_31_method_1_code (1 : Nat) (Option.none : Option Jvm.ClassFile.FieldType)) ∈ lw_all := lw_g (lw_at lw_m6 68 rfl) rfl
theorem q1362 : (Jvm.Cond.methodLink "java/lang/Number" (1 : Nat) ({ cls := "java/lang/Object", name := "<init>", desc := "()V" } : Jvm.MethodName)) ∈ lw_all := lw_g (lw_at lw_m6 69 rfl) rfl

/-! java/lang/Integer -/
set_option maxRecDepth 100000
def RJ8 : String := "java/lang/Integer"
def TJ8 : u_T := fun k => match k with
  | _ => ("java/lang/Integer", "value", "I", true)
def tyJ8 : Nat → FieldType := fun k => match k with
  | _ => .int
abbrev wsJ80 : List Cond := u_ws RJ8 TJ8 1
theorem nmJ8 : ∀ a, a < 1 → ∀ b, b < 1 → a ≠ b → (TJ8 a).2.1 ≠ (TJ8 b).2.1 := by decide +kernel
theorem tyJ8_ok : ∀ k, k < 1 → parseFieldDescriptor (TJ8 k).2.2.1 = some (tyJ8 k) := by decide +kernel
abbrev cJ8_compare : ByteArray := prog_26_method_40_code
def yJ8_compare : MethodName := ⟨RJ8, "compare", "(II)I"⟩
def dkwJ8_compare_0 : List UInt8 := [26, 27, 162, 0, 7, 2, 167, 0, 13, 26, 27, 160, 0, 7, 3, 167, 0, 4, 4, 172]
abbrev dktJ8_compare_0 : List UInt8 := dkwJ8_compare_0 ++ []
theorem dksJ8_compare_0 : cJ8_compare.data.toList.drop 0 = dktJ8_compare_0 := by decide +kernel
theorem dJ8_compare_0 : decode cJ8_compare 0 = .ok (.iload_n 0, 1) := dk_26 (dk_at dksJ8_compare_0 0 rfl rfl)
theorem dJ8_compare_1 : decode cJ8_compare 1 = .ok (.iload_n 1, 1) := dk_27 (dk_at dksJ8_compare_0 1 rfl rfl)
theorem dJ8_compare_2 : decode cJ8_compare 2 = .ok (.if_icmp .ge 7, 3) := dk_162 0 7 (dk_at dksJ8_compare_0 2 rfl rfl)
theorem dJ8_compare_5 : decode cJ8_compare 5 = .ok (.iconst (-1), 1) := dk_2 (dk_at dksJ8_compare_0 5 rfl rfl)
theorem dJ8_compare_6 : decode cJ8_compare 6 = .ok (.goto 13, 3) := dk_167 0 13 (dk_at dksJ8_compare_0 6 rfl rfl)
theorem dJ8_compare_9 : decode cJ8_compare 9 = .ok (.iload_n 0, 1) := dk_26 (dk_at dksJ8_compare_0 9 rfl rfl)
theorem dJ8_compare_10 : decode cJ8_compare 10 = .ok (.iload_n 1, 1) := dk_27 (dk_at dksJ8_compare_0 10 rfl rfl)
theorem dJ8_compare_11 : decode cJ8_compare 11 = .ok (.if_icmp .ne 7, 3) := dk_160 0 7 (dk_at dksJ8_compare_0 11 rfl rfl)
theorem dJ8_compare_14 : decode cJ8_compare 14 = .ok (.iconst 0, 1) := dk_3 (dk_at dksJ8_compare_0 14 rfl rfl)
theorem dJ8_compare_15 : decode cJ8_compare 15 = .ok (.goto 4, 3) := dk_167 0 4 (dk_at dksJ8_compare_0 15 rfl rfl)
theorem dJ8_compare_18 : decode cJ8_compare 18 = .ok (.iconst 1, 1) := dk_4 (dk_at dksJ8_compare_0 18 rfl rfl)
theorem dJ8_compare_19 : decode cJ8_compare 19 = .ok (.ireturn, 1) := dk_172 (dk_at dksJ8_compare_0 19 rfl rfl)
abbrev cJ8_compareTo : ByteArray := prog_26_method_63_code
def yJ8_compareTo : MethodName := ⟨RJ8, "compareTo", "(Ljava/lang/Object;)I"⟩
def dkwJ8_compareTo_0 : List UInt8 := [42, 43, 192, 0, 1, 182, 1, 28, 172]
abbrev dktJ8_compareTo_0 : List UInt8 := dkwJ8_compareTo_0 ++ []
theorem dksJ8_compareTo_0 : cJ8_compareTo.data.toList.drop 0 = dktJ8_compareTo_0 := by decide +kernel
theorem dJ8_compareTo_0 : decode cJ8_compareTo 0 = .ok (.aload_n 0, 1) := dk_42 (dk_at dksJ8_compareTo_0 0 rfl rfl)
theorem dJ8_compareTo_1 : decode cJ8_compareTo 1 = .ok (.aload_n 1, 1) := dk_43 (dk_at dksJ8_compareTo_0 1 rfl rfl)
theorem dJ8_compareTo_2 : decode cJ8_compareTo 2 = .ok (.checkcast 1, 3) := dk_192 0 1 (dk_at dksJ8_compareTo_0 2 rfl rfl)
theorem dJ8_compareTo_5 : decode cJ8_compareTo 5 = .ok (.invokevirtual 284, 3) := dk_182 1 28 (dk_at dksJ8_compareTo_0 5 rfl rfl)
theorem dJ8_compareTo_8 : decode cJ8_compareTo 8 = .ok (.ireturn, 1) := dk_172 (dk_at dksJ8_compareTo_0 8 rfl rfl)
abbrev cJ8_compareTo_2 : ByteArray := prog_26_method_39_code
def yJ8_compareTo_2 : MethodName := ⟨RJ8, "compareTo", "(Ljava/lang/Integer;)I"⟩
def dkwJ8_compareTo_2_0 : List UInt8 := [42, 180, 0, 205, 43, 180, 0, 205, 184, 1, 3, 172]
abbrev dktJ8_compareTo_2_0 : List UInt8 := dkwJ8_compareTo_2_0 ++ []
theorem dksJ8_compareTo_2_0 : cJ8_compareTo_2.data.toList.drop 0 = dktJ8_compareTo_2_0 := by decide +kernel
theorem dJ8_compareTo_2_0 : decode cJ8_compareTo_2 0 = .ok (.aload_n 0, 1) := dk_42 (dk_at dksJ8_compareTo_2_0 0 rfl rfl)
theorem dJ8_compareTo_2_1 : decode cJ8_compareTo_2 1 = .ok (.getfield 205, 3) := dk_180 0 205 (dk_at dksJ8_compareTo_2_0 1 rfl rfl)
theorem dJ8_compareTo_2_4 : decode cJ8_compareTo_2 4 = .ok (.aload_n 1, 1) := dk_43 (dk_at dksJ8_compareTo_2_0 4 rfl rfl)
theorem dJ8_compareTo_2_5 : decode cJ8_compareTo_2 5 = .ok (.getfield 205, 3) := dk_180 0 205 (dk_at dksJ8_compareTo_2_0 5 rfl rfl)
theorem dJ8_compareTo_2_8 : decode cJ8_compareTo_2 8 = .ok (.invokestatic 259, 3) := dk_184 1 3 (dk_at dksJ8_compareTo_2_0 8 rfl rfl)
theorem dJ8_compareTo_2_11 : decode cJ8_compareTo_2 11 = .ok (.ireturn, 1) := dk_172 (dk_at dksJ8_compareTo_2_0 11 rfl rfl)
abbrev cJ8_numberOfLeadingZeros : ByteArray := prog_26_method_47_code
def yJ8_numberOfLeadingZeros : MethodName := ⟨RJ8, "numberOfLeadingZeros", "(I)I"⟩
def dkwJ8_numberOfLeadingZeros_3 : List UInt8 := [5, 124, 59, 27, 26, 4, 124, 100, 172]
abbrev dktJ8_numberOfLeadingZeros_3 : List UInt8 := dkwJ8_numberOfLeadingZeros_3 ++ []
def dkwJ8_numberOfLeadingZeros_2 : List UInt8 := [124, 59, 26, 16, 16, 161, 0, 10, 132, 1, 252, 26, 7, 124, 59, 26, 7, 161, 0, 10, 132, 1, 254, 26]
abbrev dktJ8_numberOfLeadingZeros_2 : List UInt8 := dkwJ8_numberOfLeadingZeros_2 ++ dktJ8_numberOfLeadingZeros_3
def dkwJ8_numberOfLeadingZeros_1 : List UInt8 := [161, 0, 11, 132, 1, 240, 26, 16, 16, 124, 59, 26, 17, 1, 0, 161, 0, 11, 132, 1, 248, 26, 16, 8]
abbrev dktJ8_numberOfLeadingZeros_1 : List UInt8 := dkwJ8_numberOfLeadingZeros_1 ++ dktJ8_numberOfLeadingZeros_2
def dkwJ8_numberOfLeadingZeros_0 : List UInt8 := [26, 157, 0, 14, 26, 154, 0, 8, 16, 32, 167, 0, 4, 3, 172, 16, 31, 60, 26, 19, 1, 8]
abbrev dktJ8_numberOfLeadingZeros_0 : List UInt8 := dkwJ8_numberOfLeadingZeros_0 ++ dktJ8_numberOfLeadingZeros_1
theorem dksJ8_numberOfLeadingZeros_0 : cJ8_numberOfLeadingZeros.data.toList.drop 0 = dktJ8_numberOfLeadingZeros_0 := by decide +kernel
theorem dksJ8_numberOfLeadingZeros_1 : cJ8_numberOfLeadingZeros.data.toList.drop 22 = dktJ8_numberOfLeadingZeros_1 := dk_seg dksJ8_numberOfLeadingZeros_0 22 rfl rfl
theorem dksJ8_numberOfLeadingZeros_2 : cJ8_numberOfLeadingZeros.data.toList.drop 46 = dktJ8_numberOfLeadingZeros_2 := dk_seg dksJ8_numberOfLeadingZeros_1 24 rfl rfl
theorem dksJ8_numberOfLeadingZeros_3 : cJ8_numberOfLeadingZeros.data.toList.drop 70 = dktJ8_numberOfLeadingZeros_3 := dk_seg dksJ8_numberOfLeadingZeros_2 24 rfl rfl
theorem dJ8_numberOfLeadingZeros_0 : decode cJ8_numberOfLeadingZeros 0 = .ok (.iload_n 0, 1) := dk_26 (dk_at dksJ8_numberOfLeadingZeros_0 0 rfl rfl)
theorem dJ8_numberOfLeadingZeros_1 : decode cJ8_numberOfLeadingZeros 1 = .ok (.ifCond .gt 14, 3) := dk_157 0 14 (dk_at dksJ8_numberOfLeadingZeros_0 1 rfl rfl)
theorem dJ8_numberOfLeadingZeros_4 : decode cJ8_numberOfLeadingZeros 4 = .ok (.iload_n 0, 1) := dk_26 (dk_at dksJ8_numberOfLeadingZeros_0 4 rfl rfl)
theorem dJ8_numberOfLeadingZeros_5 : decode cJ8_numberOfLeadingZeros 5 = .ok (.ifCond .ne 8, 3) := dk_154 0 8 (dk_at dksJ8_numberOfLeadingZeros_0 5 rfl rfl)
theorem dJ8_numberOfLeadingZeros_8 : decode cJ8_numberOfLeadingZeros 8 = .ok (.bipush 32, 2) := dk_16 32 (dk_at dksJ8_numberOfLeadingZeros_0 8 rfl rfl)
theorem dJ8_numberOfLeadingZeros_10 : decode cJ8_numberOfLeadingZeros 10 = .ok (.goto 4, 3) := dk_167 0 4 (dk_at dksJ8_numberOfLeadingZeros_0 10 rfl rfl)
theorem dJ8_numberOfLeadingZeros_13 : decode cJ8_numberOfLeadingZeros 13 = .ok (.iconst 0, 1) := dk_3 (dk_at dksJ8_numberOfLeadingZeros_0 13 rfl rfl)
theorem dJ8_numberOfLeadingZeros_14 : decode cJ8_numberOfLeadingZeros 14 = .ok (.ireturn, 1) := dk_172 (dk_at dksJ8_numberOfLeadingZeros_0 14 rfl rfl)
theorem dJ8_numberOfLeadingZeros_15 : decode cJ8_numberOfLeadingZeros 15 = .ok (.bipush 31, 2) := dk_16 31 (dk_at dksJ8_numberOfLeadingZeros_0 15 rfl rfl)
theorem dJ8_numberOfLeadingZeros_17 : decode cJ8_numberOfLeadingZeros 17 = .ok (.istore_n 1, 1) := dk_60 (dk_at dksJ8_numberOfLeadingZeros_0 17 rfl rfl)
theorem dJ8_numberOfLeadingZeros_18 : decode cJ8_numberOfLeadingZeros 18 = .ok (.iload_n 0, 1) := dk_26 (dk_at dksJ8_numberOfLeadingZeros_0 18 rfl rfl)
theorem dJ8_numberOfLeadingZeros_19 : decode cJ8_numberOfLeadingZeros 19 = .ok (.ldc_w 264, 3) := dk_19 1 8 (dk_at dksJ8_numberOfLeadingZeros_0 19 rfl rfl)
theorem dJ8_numberOfLeadingZeros_22 : decode cJ8_numberOfLeadingZeros 22 = .ok (.if_icmp .lt 11, 3) := dk_161 0 11 (dk_at dksJ8_numberOfLeadingZeros_1 0 rfl rfl)
theorem dJ8_numberOfLeadingZeros_25 : decode cJ8_numberOfLeadingZeros 25 = .ok (.iinc 1 (-16), 3) := dk_132 1 240 (dk_at dksJ8_numberOfLeadingZeros_1 3 rfl rfl)
theorem dJ8_numberOfLeadingZeros_28 : decode cJ8_numberOfLeadingZeros 28 = .ok (.iload_n 0, 1) := dk_26 (dk_at dksJ8_numberOfLeadingZeros_1 6 rfl rfl)
theorem dJ8_numberOfLeadingZeros_29 : decode cJ8_numberOfLeadingZeros 29 = .ok (.bipush 16, 2) := dk_16 16 (dk_at dksJ8_numberOfLeadingZeros_1 7 rfl rfl)
theorem dJ8_numberOfLeadingZeros_31 : decode cJ8_numberOfLeadingZeros 31 = .ok (.iushr, 1) := dk_124 (dk_at dksJ8_numberOfLeadingZeros_1 9 rfl rfl)
theorem dJ8_numberOfLeadingZeros_32 : decode cJ8_numberOfLeadingZeros 32 = .ok (.istore_n 0, 1) := dk_59 (dk_at dksJ8_numberOfLeadingZeros_1 10 rfl rfl)
theorem dJ8_numberOfLeadingZeros_33 : decode cJ8_numberOfLeadingZeros 33 = .ok (.iload_n 0, 1) := dk_26 (dk_at dksJ8_numberOfLeadingZeros_1 11 rfl rfl)
theorem dJ8_numberOfLeadingZeros_34 : decode cJ8_numberOfLeadingZeros 34 = .ok (.sipush 256, 3) := dk_17 1 0 (dk_at dksJ8_numberOfLeadingZeros_1 12 rfl rfl)
theorem dJ8_numberOfLeadingZeros_37 : decode cJ8_numberOfLeadingZeros 37 = .ok (.if_icmp .lt 11, 3) := dk_161 0 11 (dk_at dksJ8_numberOfLeadingZeros_1 15 rfl rfl)
theorem dJ8_numberOfLeadingZeros_40 : decode cJ8_numberOfLeadingZeros 40 = .ok (.iinc 1 (-8), 3) := dk_132 1 248 (dk_at dksJ8_numberOfLeadingZeros_1 18 rfl rfl)
theorem dJ8_numberOfLeadingZeros_43 : decode cJ8_numberOfLeadingZeros 43 = .ok (.iload_n 0, 1) := dk_26 (dk_at dksJ8_numberOfLeadingZeros_1 21 rfl rfl)
theorem dJ8_numberOfLeadingZeros_44 : decode cJ8_numberOfLeadingZeros 44 = .ok (.bipush 8, 2) := dk_16 8 (dk_at dksJ8_numberOfLeadingZeros_1 22 rfl rfl)
theorem dJ8_numberOfLeadingZeros_46 : decode cJ8_numberOfLeadingZeros 46 = .ok (.iushr, 1) := dk_124 (dk_at dksJ8_numberOfLeadingZeros_2 0 rfl rfl)
theorem dJ8_numberOfLeadingZeros_47 : decode cJ8_numberOfLeadingZeros 47 = .ok (.istore_n 0, 1) := dk_59 (dk_at dksJ8_numberOfLeadingZeros_2 1 rfl rfl)
theorem dJ8_numberOfLeadingZeros_48 : decode cJ8_numberOfLeadingZeros 48 = .ok (.iload_n 0, 1) := dk_26 (dk_at dksJ8_numberOfLeadingZeros_2 2 rfl rfl)
theorem dJ8_numberOfLeadingZeros_49 : decode cJ8_numberOfLeadingZeros 49 = .ok (.bipush 16, 2) := dk_16 16 (dk_at dksJ8_numberOfLeadingZeros_2 3 rfl rfl)
theorem dJ8_numberOfLeadingZeros_51 : decode cJ8_numberOfLeadingZeros 51 = .ok (.if_icmp .lt 10, 3) := dk_161 0 10 (dk_at dksJ8_numberOfLeadingZeros_2 5 rfl rfl)
theorem dJ8_numberOfLeadingZeros_54 : decode cJ8_numberOfLeadingZeros 54 = .ok (.iinc 1 (-4), 3) := dk_132 1 252 (dk_at dksJ8_numberOfLeadingZeros_2 8 rfl rfl)
theorem dJ8_numberOfLeadingZeros_57 : decode cJ8_numberOfLeadingZeros 57 = .ok (.iload_n 0, 1) := dk_26 (dk_at dksJ8_numberOfLeadingZeros_2 11 rfl rfl)
theorem dJ8_numberOfLeadingZeros_58 : decode cJ8_numberOfLeadingZeros 58 = .ok (.iconst 4, 1) := dk_7 (dk_at dksJ8_numberOfLeadingZeros_2 12 rfl rfl)
theorem dJ8_numberOfLeadingZeros_59 : decode cJ8_numberOfLeadingZeros 59 = .ok (.iushr, 1) := dk_124 (dk_at dksJ8_numberOfLeadingZeros_2 13 rfl rfl)
theorem dJ8_numberOfLeadingZeros_60 : decode cJ8_numberOfLeadingZeros 60 = .ok (.istore_n 0, 1) := dk_59 (dk_at dksJ8_numberOfLeadingZeros_2 14 rfl rfl)
theorem dJ8_numberOfLeadingZeros_61 : decode cJ8_numberOfLeadingZeros 61 = .ok (.iload_n 0, 1) := dk_26 (dk_at dksJ8_numberOfLeadingZeros_2 15 rfl rfl)
theorem dJ8_numberOfLeadingZeros_62 : decode cJ8_numberOfLeadingZeros 62 = .ok (.iconst 4, 1) := dk_7 (dk_at dksJ8_numberOfLeadingZeros_2 16 rfl rfl)
theorem dJ8_numberOfLeadingZeros_63 : decode cJ8_numberOfLeadingZeros 63 = .ok (.if_icmp .lt 10, 3) := dk_161 0 10 (dk_at dksJ8_numberOfLeadingZeros_2 17 rfl rfl)
theorem dJ8_numberOfLeadingZeros_66 : decode cJ8_numberOfLeadingZeros 66 = .ok (.iinc 1 (-2), 3) := dk_132 1 254 (dk_at dksJ8_numberOfLeadingZeros_2 20 rfl rfl)
theorem dJ8_numberOfLeadingZeros_69 : decode cJ8_numberOfLeadingZeros 69 = .ok (.iload_n 0, 1) := dk_26 (dk_at dksJ8_numberOfLeadingZeros_2 23 rfl rfl)
theorem dJ8_numberOfLeadingZeros_70 : decode cJ8_numberOfLeadingZeros 70 = .ok (.iconst 2, 1) := dk_5 (dk_at dksJ8_numberOfLeadingZeros_3 0 rfl rfl)
theorem dJ8_numberOfLeadingZeros_71 : decode cJ8_numberOfLeadingZeros 71 = .ok (.iushr, 1) := dk_124 (dk_at dksJ8_numberOfLeadingZeros_3 1 rfl rfl)
theorem dJ8_numberOfLeadingZeros_72 : decode cJ8_numberOfLeadingZeros 72 = .ok (.istore_n 0, 1) := dk_59 (dk_at dksJ8_numberOfLeadingZeros_3 2 rfl rfl)
theorem dJ8_numberOfLeadingZeros_73 : decode cJ8_numberOfLeadingZeros 73 = .ok (.iload_n 1, 1) := dk_27 (dk_at dksJ8_numberOfLeadingZeros_3 3 rfl rfl)
theorem dJ8_numberOfLeadingZeros_74 : decode cJ8_numberOfLeadingZeros 74 = .ok (.iload_n 0, 1) := dk_26 (dk_at dksJ8_numberOfLeadingZeros_3 4 rfl rfl)
theorem dJ8_numberOfLeadingZeros_75 : decode cJ8_numberOfLeadingZeros 75 = .ok (.iconst 1, 1) := dk_4 (dk_at dksJ8_numberOfLeadingZeros_3 5 rfl rfl)
theorem dJ8_numberOfLeadingZeros_76 : decode cJ8_numberOfLeadingZeros 76 = .ok (.iushr, 1) := dk_124 (dk_at dksJ8_numberOfLeadingZeros_3 6 rfl rfl)
theorem dJ8_numberOfLeadingZeros_77 : decode cJ8_numberOfLeadingZeros 77 = .ok (.isub, 1) := dk_100 (dk_at dksJ8_numberOfLeadingZeros_3 7 rfl rfl)
theorem dJ8_numberOfLeadingZeros_78 : decode cJ8_numberOfLeadingZeros 78 = .ok (.ireturn, 1) := dk_172 (dk_at dksJ8_numberOfLeadingZeros_3 8 rfl rfl)
abbrev cJ8_numberOfTrailingZeros : ByteArray := prog_26_method_48_code
def yJ8_numberOfTrailingZeros : MethodName := ⟨RJ8, "numberOfTrailingZeros", "(I)I"⟩
def dkwJ8_numberOfTrailingZeros_3 : List UInt8 := [5, 124, 59, 27, 26, 4, 124, 96, 172]
abbrev dktJ8_numberOfTrailingZeros_3 : List UInt8 := dkwJ8_numberOfTrailingZeros_3 ++ []
def dkwJ8_numberOfTrailingZeros_2 : List UInt8 := [124, 59, 26, 16, 16, 164, 0, 10, 132, 1, 4, 26, 7, 124, 59, 26, 7, 164, 0, 10, 132, 1, 2, 26]
abbrev dktJ8_numberOfTrailingZeros_2 : List UInt8 := dkwJ8_numberOfTrailingZeros_2 ++ dktJ8_numberOfTrailingZeros_3
def dkwJ8_numberOfTrailingZeros_1 : List UInt8 := [164, 0, 11, 132, 1, 16, 26, 16, 16, 124, 59, 26, 17, 1, 0, 164, 0, 11, 132, 1, 8, 26, 16, 8]
abbrev dktJ8_numberOfTrailingZeros_1 : List UInt8 := dkwJ8_numberOfTrailingZeros_1 ++ dktJ8_numberOfTrailingZeros_2
def dkwJ8_numberOfTrailingZeros_0 : List UInt8 := [26, 2, 130, 26, 4, 100, 126, 59, 26, 157, 0, 8, 26, 16, 32, 126, 172, 4, 60, 26, 19, 1, 8]
abbrev dktJ8_numberOfTrailingZeros_0 : List UInt8 := dkwJ8_numberOfTrailingZeros_0 ++ dktJ8_numberOfTrailingZeros_1
theorem dksJ8_numberOfTrailingZeros_0 : cJ8_numberOfTrailingZeros.data.toList.drop 0 = dktJ8_numberOfTrailingZeros_0 := by decide +kernel
theorem dksJ8_numberOfTrailingZeros_1 : cJ8_numberOfTrailingZeros.data.toList.drop 23 = dktJ8_numberOfTrailingZeros_1 := dk_seg dksJ8_numberOfTrailingZeros_0 23 rfl rfl
theorem dksJ8_numberOfTrailingZeros_2 : cJ8_numberOfTrailingZeros.data.toList.drop 47 = dktJ8_numberOfTrailingZeros_2 := dk_seg dksJ8_numberOfTrailingZeros_1 24 rfl rfl
theorem dksJ8_numberOfTrailingZeros_3 : cJ8_numberOfTrailingZeros.data.toList.drop 71 = dktJ8_numberOfTrailingZeros_3 := dk_seg dksJ8_numberOfTrailingZeros_2 24 rfl rfl
theorem dJ8_numberOfTrailingZeros_0 : decode cJ8_numberOfTrailingZeros 0 = .ok (.iload_n 0, 1) := dk_26 (dk_at dksJ8_numberOfTrailingZeros_0 0 rfl rfl)
theorem dJ8_numberOfTrailingZeros_1 : decode cJ8_numberOfTrailingZeros 1 = .ok (.iconst (-1), 1) := dk_2 (dk_at dksJ8_numberOfTrailingZeros_0 1 rfl rfl)
theorem dJ8_numberOfTrailingZeros_2 : decode cJ8_numberOfTrailingZeros 2 = .ok (.ixor, 1) := dk_130 (dk_at dksJ8_numberOfTrailingZeros_0 2 rfl rfl)
theorem dJ8_numberOfTrailingZeros_3 : decode cJ8_numberOfTrailingZeros 3 = .ok (.iload_n 0, 1) := dk_26 (dk_at dksJ8_numberOfTrailingZeros_0 3 rfl rfl)
theorem dJ8_numberOfTrailingZeros_4 : decode cJ8_numberOfTrailingZeros 4 = .ok (.iconst 1, 1) := dk_4 (dk_at dksJ8_numberOfTrailingZeros_0 4 rfl rfl)
theorem dJ8_numberOfTrailingZeros_5 : decode cJ8_numberOfTrailingZeros 5 = .ok (.isub, 1) := dk_100 (dk_at dksJ8_numberOfTrailingZeros_0 5 rfl rfl)
theorem dJ8_numberOfTrailingZeros_6 : decode cJ8_numberOfTrailingZeros 6 = .ok (.iand, 1) := dk_126 (dk_at dksJ8_numberOfTrailingZeros_0 6 rfl rfl)
theorem dJ8_numberOfTrailingZeros_7 : decode cJ8_numberOfTrailingZeros 7 = .ok (.istore_n 0, 1) := dk_59 (dk_at dksJ8_numberOfTrailingZeros_0 7 rfl rfl)
theorem dJ8_numberOfTrailingZeros_8 : decode cJ8_numberOfTrailingZeros 8 = .ok (.iload_n 0, 1) := dk_26 (dk_at dksJ8_numberOfTrailingZeros_0 8 rfl rfl)
theorem dJ8_numberOfTrailingZeros_9 : decode cJ8_numberOfTrailingZeros 9 = .ok (.ifCond .gt 8, 3) := dk_157 0 8 (dk_at dksJ8_numberOfTrailingZeros_0 9 rfl rfl)
theorem dJ8_numberOfTrailingZeros_12 : decode cJ8_numberOfTrailingZeros 12 = .ok (.iload_n 0, 1) := dk_26 (dk_at dksJ8_numberOfTrailingZeros_0 12 rfl rfl)
theorem dJ8_numberOfTrailingZeros_13 : decode cJ8_numberOfTrailingZeros 13 = .ok (.bipush 32, 2) := dk_16 32 (dk_at dksJ8_numberOfTrailingZeros_0 13 rfl rfl)
theorem dJ8_numberOfTrailingZeros_15 : decode cJ8_numberOfTrailingZeros 15 = .ok (.iand, 1) := dk_126 (dk_at dksJ8_numberOfTrailingZeros_0 15 rfl rfl)
theorem dJ8_numberOfTrailingZeros_16 : decode cJ8_numberOfTrailingZeros 16 = .ok (.ireturn, 1) := dk_172 (dk_at dksJ8_numberOfTrailingZeros_0 16 rfl rfl)
theorem dJ8_numberOfTrailingZeros_17 : decode cJ8_numberOfTrailingZeros 17 = .ok (.iconst 1, 1) := dk_4 (dk_at dksJ8_numberOfTrailingZeros_0 17 rfl rfl)
theorem dJ8_numberOfTrailingZeros_18 : decode cJ8_numberOfTrailingZeros 18 = .ok (.istore_n 1, 1) := dk_60 (dk_at dksJ8_numberOfTrailingZeros_0 18 rfl rfl)
theorem dJ8_numberOfTrailingZeros_19 : decode cJ8_numberOfTrailingZeros 19 = .ok (.iload_n 0, 1) := dk_26 (dk_at dksJ8_numberOfTrailingZeros_0 19 rfl rfl)
theorem dJ8_numberOfTrailingZeros_20 : decode cJ8_numberOfTrailingZeros 20 = .ok (.ldc_w 264, 3) := dk_19 1 8 (dk_at dksJ8_numberOfTrailingZeros_0 20 rfl rfl)
theorem dJ8_numberOfTrailingZeros_23 : decode cJ8_numberOfTrailingZeros 23 = .ok (.if_icmp .le 11, 3) := dk_164 0 11 (dk_at dksJ8_numberOfTrailingZeros_1 0 rfl rfl)
theorem dJ8_numberOfTrailingZeros_26 : decode cJ8_numberOfTrailingZeros 26 = .ok (.iinc 1 16, 3) := dk_132 1 16 (dk_at dksJ8_numberOfTrailingZeros_1 3 rfl rfl)
theorem dJ8_numberOfTrailingZeros_29 : decode cJ8_numberOfTrailingZeros 29 = .ok (.iload_n 0, 1) := dk_26 (dk_at dksJ8_numberOfTrailingZeros_1 6 rfl rfl)
theorem dJ8_numberOfTrailingZeros_30 : decode cJ8_numberOfTrailingZeros 30 = .ok (.bipush 16, 2) := dk_16 16 (dk_at dksJ8_numberOfTrailingZeros_1 7 rfl rfl)
theorem dJ8_numberOfTrailingZeros_32 : decode cJ8_numberOfTrailingZeros 32 = .ok (.iushr, 1) := dk_124 (dk_at dksJ8_numberOfTrailingZeros_1 9 rfl rfl)
theorem dJ8_numberOfTrailingZeros_33 : decode cJ8_numberOfTrailingZeros 33 = .ok (.istore_n 0, 1) := dk_59 (dk_at dksJ8_numberOfTrailingZeros_1 10 rfl rfl)
theorem dJ8_numberOfTrailingZeros_34 : decode cJ8_numberOfTrailingZeros 34 = .ok (.iload_n 0, 1) := dk_26 (dk_at dksJ8_numberOfTrailingZeros_1 11 rfl rfl)
theorem dJ8_numberOfTrailingZeros_35 : decode cJ8_numberOfTrailingZeros 35 = .ok (.sipush 256, 3) := dk_17 1 0 (dk_at dksJ8_numberOfTrailingZeros_1 12 rfl rfl)
theorem dJ8_numberOfTrailingZeros_38 : decode cJ8_numberOfTrailingZeros 38 = .ok (.if_icmp .le 11, 3) := dk_164 0 11 (dk_at dksJ8_numberOfTrailingZeros_1 15 rfl rfl)
theorem dJ8_numberOfTrailingZeros_41 : decode cJ8_numberOfTrailingZeros 41 = .ok (.iinc 1 8, 3) := dk_132 1 8 (dk_at dksJ8_numberOfTrailingZeros_1 18 rfl rfl)
theorem dJ8_numberOfTrailingZeros_44 : decode cJ8_numberOfTrailingZeros 44 = .ok (.iload_n 0, 1) := dk_26 (dk_at dksJ8_numberOfTrailingZeros_1 21 rfl rfl)
theorem dJ8_numberOfTrailingZeros_45 : decode cJ8_numberOfTrailingZeros 45 = .ok (.bipush 8, 2) := dk_16 8 (dk_at dksJ8_numberOfTrailingZeros_1 22 rfl rfl)
theorem dJ8_numberOfTrailingZeros_47 : decode cJ8_numberOfTrailingZeros 47 = .ok (.iushr, 1) := dk_124 (dk_at dksJ8_numberOfTrailingZeros_2 0 rfl rfl)
theorem dJ8_numberOfTrailingZeros_48 : decode cJ8_numberOfTrailingZeros 48 = .ok (.istore_n 0, 1) := dk_59 (dk_at dksJ8_numberOfTrailingZeros_2 1 rfl rfl)
theorem dJ8_numberOfTrailingZeros_49 : decode cJ8_numberOfTrailingZeros 49 = .ok (.iload_n 0, 1) := dk_26 (dk_at dksJ8_numberOfTrailingZeros_2 2 rfl rfl)
theorem dJ8_numberOfTrailingZeros_50 : decode cJ8_numberOfTrailingZeros 50 = .ok (.bipush 16, 2) := dk_16 16 (dk_at dksJ8_numberOfTrailingZeros_2 3 rfl rfl)
theorem dJ8_numberOfTrailingZeros_52 : decode cJ8_numberOfTrailingZeros 52 = .ok (.if_icmp .le 10, 3) := dk_164 0 10 (dk_at dksJ8_numberOfTrailingZeros_2 5 rfl rfl)
theorem dJ8_numberOfTrailingZeros_55 : decode cJ8_numberOfTrailingZeros 55 = .ok (.iinc 1 4, 3) := dk_132 1 4 (dk_at dksJ8_numberOfTrailingZeros_2 8 rfl rfl)
theorem dJ8_numberOfTrailingZeros_58 : decode cJ8_numberOfTrailingZeros 58 = .ok (.iload_n 0, 1) := dk_26 (dk_at dksJ8_numberOfTrailingZeros_2 11 rfl rfl)
theorem dJ8_numberOfTrailingZeros_59 : decode cJ8_numberOfTrailingZeros 59 = .ok (.iconst 4, 1) := dk_7 (dk_at dksJ8_numberOfTrailingZeros_2 12 rfl rfl)
theorem dJ8_numberOfTrailingZeros_60 : decode cJ8_numberOfTrailingZeros 60 = .ok (.iushr, 1) := dk_124 (dk_at dksJ8_numberOfTrailingZeros_2 13 rfl rfl)
theorem dJ8_numberOfTrailingZeros_61 : decode cJ8_numberOfTrailingZeros 61 = .ok (.istore_n 0, 1) := dk_59 (dk_at dksJ8_numberOfTrailingZeros_2 14 rfl rfl)
theorem dJ8_numberOfTrailingZeros_62 : decode cJ8_numberOfTrailingZeros 62 = .ok (.iload_n 0, 1) := dk_26 (dk_at dksJ8_numberOfTrailingZeros_2 15 rfl rfl)
theorem dJ8_numberOfTrailingZeros_63 : decode cJ8_numberOfTrailingZeros 63 = .ok (.iconst 4, 1) := dk_7 (dk_at dksJ8_numberOfTrailingZeros_2 16 rfl rfl)
theorem dJ8_numberOfTrailingZeros_64 : decode cJ8_numberOfTrailingZeros 64 = .ok (.if_icmp .le 10, 3) := dk_164 0 10 (dk_at dksJ8_numberOfTrailingZeros_2 17 rfl rfl)
theorem dJ8_numberOfTrailingZeros_67 : decode cJ8_numberOfTrailingZeros 67 = .ok (.iinc 1 2, 3) := dk_132 1 2 (dk_at dksJ8_numberOfTrailingZeros_2 20 rfl rfl)
theorem dJ8_numberOfTrailingZeros_70 : decode cJ8_numberOfTrailingZeros 70 = .ok (.iload_n 0, 1) := dk_26 (dk_at dksJ8_numberOfTrailingZeros_2 23 rfl rfl)
theorem dJ8_numberOfTrailingZeros_71 : decode cJ8_numberOfTrailingZeros 71 = .ok (.iconst 2, 1) := dk_5 (dk_at dksJ8_numberOfTrailingZeros_3 0 rfl rfl)
theorem dJ8_numberOfTrailingZeros_72 : decode cJ8_numberOfTrailingZeros 72 = .ok (.iushr, 1) := dk_124 (dk_at dksJ8_numberOfTrailingZeros_3 1 rfl rfl)
theorem dJ8_numberOfTrailingZeros_73 : decode cJ8_numberOfTrailingZeros 73 = .ok (.istore_n 0, 1) := dk_59 (dk_at dksJ8_numberOfTrailingZeros_3 2 rfl rfl)
theorem dJ8_numberOfTrailingZeros_74 : decode cJ8_numberOfTrailingZeros 74 = .ok (.iload_n 1, 1) := dk_27 (dk_at dksJ8_numberOfTrailingZeros_3 3 rfl rfl)
theorem dJ8_numberOfTrailingZeros_75 : decode cJ8_numberOfTrailingZeros 75 = .ok (.iload_n 0, 1) := dk_26 (dk_at dksJ8_numberOfTrailingZeros_3 4 rfl rfl)
theorem dJ8_numberOfTrailingZeros_76 : decode cJ8_numberOfTrailingZeros 76 = .ok (.iconst 1, 1) := dk_4 (dk_at dksJ8_numberOfTrailingZeros_3 5 rfl rfl)
theorem dJ8_numberOfTrailingZeros_77 : decode cJ8_numberOfTrailingZeros 77 = .ok (.iushr, 1) := dk_124 (dk_at dksJ8_numberOfTrailingZeros_3 6 rfl rfl)
theorem dJ8_numberOfTrailingZeros_78 : decode cJ8_numberOfTrailingZeros 78 = .ok (.iadd, 1) := dk_96 (dk_at dksJ8_numberOfTrailingZeros_3 7 rfl rfl)
theorem dJ8_numberOfTrailingZeros_79 : decode cJ8_numberOfTrailingZeros 79 = .ok (.ireturn, 1) := dk_172 (dk_at dksJ8_numberOfTrailingZeros_3 8 rfl rfl)
abbrev cJ8_valueOf : ByteArray := prog_26_method_22_code
def yJ8_valueOf : MethodName := ⟨RJ8, "valueOf", "(I)Ljava/lang/Integer;"⟩
def dkwJ8_valueOf_1 : List UInt8 := [187, 0, 1, 89, 26, 183, 0, 199, 176]
abbrev dktJ8_valueOf_1 : List UInt8 := dkwJ8_valueOf_1 ++ []
def dkwJ8_valueOf_0 : List UInt8 := [26, 16, 128, 161, 0, 20, 26, 178, 0, 191, 163, 0, 13, 178, 0, 195, 26, 17, 0, 128, 96, 50, 176]
abbrev dktJ8_valueOf_0 : List UInt8 := dkwJ8_valueOf_0 ++ dktJ8_valueOf_1
theorem dksJ8_valueOf_0 : cJ8_valueOf.data.toList.drop 0 = dktJ8_valueOf_0 := by decide +kernel
theorem dksJ8_valueOf_1 : cJ8_valueOf.data.toList.drop 23 = dktJ8_valueOf_1 := dk_seg dksJ8_valueOf_0 23 rfl rfl
theorem dJ8_valueOf_0 : decode cJ8_valueOf 0 = .ok (.iload_n 0, 1) := dk_26 (dk_at dksJ8_valueOf_0 0 rfl rfl)
theorem dJ8_valueOf_1 : decode cJ8_valueOf 1 = .ok (.bipush (-128), 2) := dk_16 128 (dk_at dksJ8_valueOf_0 1 rfl rfl)
theorem dJ8_valueOf_3 : decode cJ8_valueOf 3 = .ok (.if_icmp .lt 20, 3) := dk_161 0 20 (dk_at dksJ8_valueOf_0 3 rfl rfl)
theorem dJ8_valueOf_6 : decode cJ8_valueOf 6 = .ok (.iload_n 0, 1) := dk_26 (dk_at dksJ8_valueOf_0 6 rfl rfl)
theorem dJ8_valueOf_7 : decode cJ8_valueOf 7 = .ok (.getstatic 191, 3) := dk_178 0 191 (dk_at dksJ8_valueOf_0 7 rfl rfl)
theorem dJ8_valueOf_10 : decode cJ8_valueOf 10 = .ok (.if_icmp .gt 13, 3) := dk_163 0 13 (dk_at dksJ8_valueOf_0 10 rfl rfl)
theorem dJ8_valueOf_13 : decode cJ8_valueOf 13 = .ok (.getstatic 195, 3) := dk_178 0 195 (dk_at dksJ8_valueOf_0 13 rfl rfl)
theorem dJ8_valueOf_16 : decode cJ8_valueOf 16 = .ok (.iload_n 0, 1) := dk_26 (dk_at dksJ8_valueOf_0 16 rfl rfl)
theorem dJ8_valueOf_17 : decode cJ8_valueOf 17 = .ok (.sipush 128, 3) := dk_17 0 128 (dk_at dksJ8_valueOf_0 17 rfl rfl)
theorem dJ8_valueOf_20 : decode cJ8_valueOf 20 = .ok (.iadd, 1) := dk_96 (dk_at dksJ8_valueOf_0 20 rfl rfl)
theorem dJ8_valueOf_21 : decode cJ8_valueOf 21 = .ok (.aaload, 1) := dk_50 (dk_at dksJ8_valueOf_0 21 rfl rfl)
theorem dJ8_valueOf_22 : decode cJ8_valueOf 22 = .ok (.areturn, 1) := dk_176 (dk_at dksJ8_valueOf_0 22 rfl rfl)
theorem dJ8_valueOf_23 : decode cJ8_valueOf 23 = .ok (.new 1, 3) := dk_187 0 1 (dk_at dksJ8_valueOf_1 0 rfl rfl)
theorem dJ8_valueOf_26 : decode cJ8_valueOf 26 = .ok (.dup, 1) := dk_89 (dk_at dksJ8_valueOf_1 3 rfl rfl)
theorem dJ8_valueOf_27 : decode cJ8_valueOf 27 = .ok (.iload_n 0, 1) := dk_26 (dk_at dksJ8_valueOf_1 4 rfl rfl)
theorem dJ8_valueOf_28 : decode cJ8_valueOf 28 = .ok (.invokespecial 199, 3) := dk_183 0 199 (dk_at dksJ8_valueOf_1 5 rfl rfl)
theorem dJ8_valueOf_31 : decode cJ8_valueOf 31 = .ok (.areturn, 1) := dk_176 (dk_at dksJ8_valueOf_1 8 rfl rfl)
abbrev cJ8_init : ByteArray := prog_26_method_23_code
def yJ8_init : MethodName := ⟨RJ8, "<init>", "(I)V"⟩
def dkwJ8_init_0 : List UInt8 := [42, 183, 0, 202, 42, 27, 181, 0, 205, 177]
abbrev dktJ8_init_0 : List UInt8 := dkwJ8_init_0 ++ []
theorem dksJ8_init_0 : cJ8_init.data.toList.drop 0 = dktJ8_init_0 := by decide +kernel
theorem dJ8_init_0 : decode cJ8_init 0 = .ok (.aload_n 0, 1) := dk_42 (dk_at dksJ8_init_0 0 rfl rfl)
theorem dJ8_init_1 : decode cJ8_init 1 = .ok (.invokespecial 202, 3) := dk_183 0 202 (dk_at dksJ8_init_0 1 rfl rfl)
theorem dJ8_init_4 : decode cJ8_init 4 = .ok (.aload_n 0, 1) := dk_42 (dk_at dksJ8_init_0 4 rfl rfl)
theorem dJ8_init_5 : decode cJ8_init 5 = .ok (.iload_n 1, 1) := dk_27 (dk_at dksJ8_init_0 5 rfl rfl)
theorem dJ8_init_6 : decode cJ8_init 6 = .ok (.putfield 205, 3) := dk_181 0 205 (dk_at dksJ8_init_0 6 rfl rfl)
theorem dJ8_init_9 : decode cJ8_init 9 = .ok (.return_, 1) := dk_177 (dk_at dksJ8_init_0 9 rfl rfl)
abbrev cJ8_equals : ByteArray := prog_26_method_34_code
def yJ8_equals : MethodName := ⟨RJ8, "equals", "(Ljava/lang/Object;)Z"⟩
def dkwJ8_equals_1 : List UInt8 := [167, 0, 4, 3, 172, 3, 172]
abbrev dktJ8_equals_1 : List UInt8 := dkwJ8_equals_1 ++ []
def dkwJ8_equals_0 : List UInt8 := [43, 193, 0, 1, 153, 0, 23, 42, 180, 0, 205, 43, 192, 0, 1, 182, 0, 211, 160, 0, 7, 4]
abbrev dktJ8_equals_0 : List UInt8 := dkwJ8_equals_0 ++ dktJ8_equals_1
theorem dksJ8_equals_0 : cJ8_equals.data.toList.drop 0 = dktJ8_equals_0 := by decide +kernel
theorem dksJ8_equals_1 : cJ8_equals.data.toList.drop 22 = dktJ8_equals_1 := dk_seg dksJ8_equals_0 22 rfl rfl
theorem dJ8_equals_0 : decode cJ8_equals 0 = .ok (.aload_n 1, 1) := dk_43 (dk_at dksJ8_equals_0 0 rfl rfl)
theorem dJ8_equals_1 : decode cJ8_equals 1 = .ok (.instanceof 1, 3) := dk_193 0 1 (dk_at dksJ8_equals_0 1 rfl rfl)
theorem dJ8_equals_4 : decode cJ8_equals 4 = .ok (.ifCond .eq 23, 3) := dk_153 0 23 (dk_at dksJ8_equals_0 4 rfl rfl)
theorem dJ8_equals_7 : decode cJ8_equals 7 = .ok (.aload_n 0, 1) := dk_42 (dk_at dksJ8_equals_0 7 rfl rfl)
theorem dJ8_equals_8 : decode cJ8_equals 8 = .ok (.getfield 205, 3) := dk_180 0 205 (dk_at dksJ8_equals_0 8 rfl rfl)
theorem dJ8_equals_11 : decode cJ8_equals 11 = .ok (.aload_n 1, 1) := dk_43 (dk_at dksJ8_equals_0 11 rfl rfl)
theorem dJ8_equals_12 : decode cJ8_equals 12 = .ok (.checkcast 1, 3) := dk_192 0 1 (dk_at dksJ8_equals_0 12 rfl rfl)
theorem dJ8_equals_15 : decode cJ8_equals 15 = .ok (.invokevirtual 211, 3) := dk_182 0 211 (dk_at dksJ8_equals_0 15 rfl rfl)
theorem dJ8_equals_18 : decode cJ8_equals 18 = .ok (.if_icmp .ne 7, 3) := dk_160 0 7 (dk_at dksJ8_equals_0 18 rfl rfl)
theorem dJ8_equals_21 : decode cJ8_equals 21 = .ok (.iconst 1, 1) := dk_4 (dk_at dksJ8_equals_0 21 rfl rfl)
theorem dJ8_equals_22 : decode cJ8_equals 22 = .ok (.goto 4, 3) := dk_167 0 4 (dk_at dksJ8_equals_1 0 rfl rfl)
theorem dJ8_equals_25 : decode cJ8_equals 25 = .ok (.iconst 0, 1) := dk_3 (dk_at dksJ8_equals_1 3 rfl rfl)
theorem dJ8_equals_26 : decode cJ8_equals 26 = .ok (.ireturn, 1) := dk_172 (dk_at dksJ8_equals_1 4 rfl rfl)
theorem dJ8_equals_27 : decode cJ8_equals 27 = .ok (.iconst 0, 1) := dk_3 (dk_at dksJ8_equals_1 5 rfl rfl)
theorem dJ8_equals_28 : decode cJ8_equals 28 = .ok (.ireturn, 1) := dk_172 (dk_at dksJ8_equals_1 6 rfl rfl)
abbrev cJ8_intValue : ByteArray := prog_26_method_27_code
def yJ8_intValue : MethodName := ⟨RJ8, "intValue", "()I"⟩
theorem dJ8_intValue_0 : decode cJ8_intValue 0 = .ok (.aload_n 0, 1) := by decide +kernel
theorem dJ8_intValue_1 : decode cJ8_intValue 1 = .ok (.getfield 205, 3) := by decide +kernel
theorem dJ8_intValue_4 : decode cJ8_intValue 4 = .ok (.ireturn, 1) := by decide +kernel
abbrev cJ8_bitCount : ByteArray := prog_26_method_49_code
def yJ8_bitCount : MethodName := ⟨RJ8, "bitCount", "(I)I"⟩
def dkwJ8_bitCount_2 : List UInt8 := [26, 16, 63, 126, 172]
abbrev dktJ8_bitCount_2 : List UInt8 := dkwJ8_bitCount_2 ++ []
def dkwJ8_bitCount_1 : List UInt8 := [26, 26, 7, 124, 96, 19, 1, 11, 126, 59, 26, 26, 16, 8, 124, 96, 59, 26, 26, 16, 16, 124, 96, 59]
abbrev dktJ8_bitCount_1 : List UInt8 := dkwJ8_bitCount_1 ++ dktJ8_bitCount_2
def dkwJ8_bitCount_0 : List UInt8 := [26, 26, 4, 124, 19, 1, 9, 126, 100, 59, 26, 19, 1, 10, 126, 26, 5, 124, 19, 1, 10, 126, 96, 59]
abbrev dktJ8_bitCount_0 : List UInt8 := dkwJ8_bitCount_0 ++ dktJ8_bitCount_1
theorem dksJ8_bitCount_0 : cJ8_bitCount.data.toList.drop 0 = dktJ8_bitCount_0 := by decide +kernel
theorem dksJ8_bitCount_1 : cJ8_bitCount.data.toList.drop 24 = dktJ8_bitCount_1 := dk_seg dksJ8_bitCount_0 24 rfl rfl
theorem dksJ8_bitCount_2 : cJ8_bitCount.data.toList.drop 48 = dktJ8_bitCount_2 := dk_seg dksJ8_bitCount_1 24 rfl rfl
theorem dJ8_bitCount_0 : decode cJ8_bitCount 0 = .ok (.iload_n 0, 1) := dk_26 (dk_at dksJ8_bitCount_0 0 rfl rfl)
theorem dJ8_bitCount_1 : decode cJ8_bitCount 1 = .ok (.iload_n 0, 1) := dk_26 (dk_at dksJ8_bitCount_0 1 rfl rfl)
theorem dJ8_bitCount_2 : decode cJ8_bitCount 2 = .ok (.iconst 1, 1) := dk_4 (dk_at dksJ8_bitCount_0 2 rfl rfl)
theorem dJ8_bitCount_3 : decode cJ8_bitCount 3 = .ok (.iushr, 1) := dk_124 (dk_at dksJ8_bitCount_0 3 rfl rfl)
theorem dJ8_bitCount_4 : decode cJ8_bitCount 4 = .ok (.ldc_w 265, 3) := dk_19 1 9 (dk_at dksJ8_bitCount_0 4 rfl rfl)
theorem dJ8_bitCount_7 : decode cJ8_bitCount 7 = .ok (.iand, 1) := dk_126 (dk_at dksJ8_bitCount_0 7 rfl rfl)
theorem dJ8_bitCount_8 : decode cJ8_bitCount 8 = .ok (.isub, 1) := dk_100 (dk_at dksJ8_bitCount_0 8 rfl rfl)
theorem dJ8_bitCount_9 : decode cJ8_bitCount 9 = .ok (.istore_n 0, 1) := dk_59 (dk_at dksJ8_bitCount_0 9 rfl rfl)
theorem dJ8_bitCount_10 : decode cJ8_bitCount 10 = .ok (.iload_n 0, 1) := dk_26 (dk_at dksJ8_bitCount_0 10 rfl rfl)
theorem dJ8_bitCount_11 : decode cJ8_bitCount 11 = .ok (.ldc_w 266, 3) := dk_19 1 10 (dk_at dksJ8_bitCount_0 11 rfl rfl)
theorem dJ8_bitCount_14 : decode cJ8_bitCount 14 = .ok (.iand, 1) := dk_126 (dk_at dksJ8_bitCount_0 14 rfl rfl)
theorem dJ8_bitCount_15 : decode cJ8_bitCount 15 = .ok (.iload_n 0, 1) := dk_26 (dk_at dksJ8_bitCount_0 15 rfl rfl)
theorem dJ8_bitCount_16 : decode cJ8_bitCount 16 = .ok (.iconst 2, 1) := dk_5 (dk_at dksJ8_bitCount_0 16 rfl rfl)
theorem dJ8_bitCount_17 : decode cJ8_bitCount 17 = .ok (.iushr, 1) := dk_124 (dk_at dksJ8_bitCount_0 17 rfl rfl)
theorem dJ8_bitCount_18 : decode cJ8_bitCount 18 = .ok (.ldc_w 266, 3) := dk_19 1 10 (dk_at dksJ8_bitCount_0 18 rfl rfl)
theorem dJ8_bitCount_21 : decode cJ8_bitCount 21 = .ok (.iand, 1) := dk_126 (dk_at dksJ8_bitCount_0 21 rfl rfl)
theorem dJ8_bitCount_22 : decode cJ8_bitCount 22 = .ok (.iadd, 1) := dk_96 (dk_at dksJ8_bitCount_0 22 rfl rfl)
theorem dJ8_bitCount_23 : decode cJ8_bitCount 23 = .ok (.istore_n 0, 1) := dk_59 (dk_at dksJ8_bitCount_0 23 rfl rfl)
theorem dJ8_bitCount_24 : decode cJ8_bitCount 24 = .ok (.iload_n 0, 1) := dk_26 (dk_at dksJ8_bitCount_1 0 rfl rfl)
theorem dJ8_bitCount_25 : decode cJ8_bitCount 25 = .ok (.iload_n 0, 1) := dk_26 (dk_at dksJ8_bitCount_1 1 rfl rfl)
theorem dJ8_bitCount_26 : decode cJ8_bitCount 26 = .ok (.iconst 4, 1) := dk_7 (dk_at dksJ8_bitCount_1 2 rfl rfl)
theorem dJ8_bitCount_27 : decode cJ8_bitCount 27 = .ok (.iushr, 1) := dk_124 (dk_at dksJ8_bitCount_1 3 rfl rfl)
theorem dJ8_bitCount_28 : decode cJ8_bitCount 28 = .ok (.iadd, 1) := dk_96 (dk_at dksJ8_bitCount_1 4 rfl rfl)
theorem dJ8_bitCount_29 : decode cJ8_bitCount 29 = .ok (.ldc_w 267, 3) := dk_19 1 11 (dk_at dksJ8_bitCount_1 5 rfl rfl)
theorem dJ8_bitCount_32 : decode cJ8_bitCount 32 = .ok (.iand, 1) := dk_126 (dk_at dksJ8_bitCount_1 8 rfl rfl)
theorem dJ8_bitCount_33 : decode cJ8_bitCount 33 = .ok (.istore_n 0, 1) := dk_59 (dk_at dksJ8_bitCount_1 9 rfl rfl)
theorem dJ8_bitCount_34 : decode cJ8_bitCount 34 = .ok (.iload_n 0, 1) := dk_26 (dk_at dksJ8_bitCount_1 10 rfl rfl)
theorem dJ8_bitCount_35 : decode cJ8_bitCount 35 = .ok (.iload_n 0, 1) := dk_26 (dk_at dksJ8_bitCount_1 11 rfl rfl)
theorem dJ8_bitCount_36 : decode cJ8_bitCount 36 = .ok (.bipush 8, 2) := dk_16 8 (dk_at dksJ8_bitCount_1 12 rfl rfl)
theorem dJ8_bitCount_38 : decode cJ8_bitCount 38 = .ok (.iushr, 1) := dk_124 (dk_at dksJ8_bitCount_1 14 rfl rfl)
theorem dJ8_bitCount_39 : decode cJ8_bitCount 39 = .ok (.iadd, 1) := dk_96 (dk_at dksJ8_bitCount_1 15 rfl rfl)
theorem dJ8_bitCount_40 : decode cJ8_bitCount 40 = .ok (.istore_n 0, 1) := dk_59 (dk_at dksJ8_bitCount_1 16 rfl rfl)
theorem dJ8_bitCount_41 : decode cJ8_bitCount 41 = .ok (.iload_n 0, 1) := dk_26 (dk_at dksJ8_bitCount_1 17 rfl rfl)
theorem dJ8_bitCount_42 : decode cJ8_bitCount 42 = .ok (.iload_n 0, 1) := dk_26 (dk_at dksJ8_bitCount_1 18 rfl rfl)
theorem dJ8_bitCount_43 : decode cJ8_bitCount 43 = .ok (.bipush 16, 2) := dk_16 16 (dk_at dksJ8_bitCount_1 19 rfl rfl)
theorem dJ8_bitCount_45 : decode cJ8_bitCount 45 = .ok (.iushr, 1) := dk_124 (dk_at dksJ8_bitCount_1 21 rfl rfl)
theorem dJ8_bitCount_46 : decode cJ8_bitCount 46 = .ok (.iadd, 1) := dk_96 (dk_at dksJ8_bitCount_1 22 rfl rfl)
theorem dJ8_bitCount_47 : decode cJ8_bitCount 47 = .ok (.istore_n 0, 1) := dk_59 (dk_at dksJ8_bitCount_1 23 rfl rfl)
theorem dJ8_bitCount_48 : decode cJ8_bitCount 48 = .ok (.iload_n 0, 1) := dk_26 (dk_at dksJ8_bitCount_2 0 rfl rfl)
theorem dJ8_bitCount_49 : decode cJ8_bitCount 49 = .ok (.bipush 63, 2) := dk_16 63 (dk_at dksJ8_bitCount_2 1 rfl rfl)
theorem dJ8_bitCount_51 : decode cJ8_bitCount 51 = .ok (.iand, 1) := dk_126 (dk_at dksJ8_bitCount_2 3 rfl rfl)
theorem dJ8_bitCount_52 : decode cJ8_bitCount 52 = .ok (.ireturn, 1) := dk_172 (dk_at dksJ8_bitCount_2 4 rfl rfl)
theorem q109 : (Jvm.Cond.initialized "java/lang/Integer") ∈ lw_all := lw_g (lw_at lw_m1 16 rfl) rfl
theorem q448 : (Jvm.Cond.static ({ cls := "java/lang/Integer", name := "compare", desc := "(II)I" } : Jvm.MethodName)) ∈ lw_all := lw_g (lw_at lw_m2 115 rfl) rfl
theorem q449 : (Jvm.Cond.code ({ cls := "java/lang/Integer", name := "compare", desc := "(II)I" } : Jvm.MethodName) prog_26_method_40_code (2 : Nat) (Option.some Jvm.ClassFile.FieldType.int)) ∈ lw_all := lw_g (lw_at lw_m2 116 rfl) rfl
theorem q450 : (Jvm.Cond.castable "java/lang/Integer" "java/lang/Comparable") ∈ lw_tbl := lw_at lw_m2 117 rfl
theorem q451 : (Jvm.Cond.selects "java/lang/Integer" ({ cls := "java/lang/Comparable", name := "compareTo", desc := "(Ljava/lang/Object;)I" } : Jvm.MethodName) ({ cls := "java/lang/Integer", name := "compareTo", desc := "(Ljava/lang/Object;)I" } : Jvm.MethodName)) ∈ lw_all := lw_g (lw_at lw_m2 118 rfl) rfl
theorem q452 : (Jvm.Cond.unhidden "java/lang/Integer" "compareTo" "(Ljava/lang/Object;)I") ∈ lw_tbl := lw_at lw_m2 119 rfl
theorem q453 : (Jvm.Cond.instanceMethod ({ cls := "java/lang/Integer", name := "compareTo", desc := "(Ljava/lang/Object;)I" } : Jvm.MethodName)) ∈ lw_all := lw_g (lw_at lw_m2 120 rfl) rfl
theorem q454 : (Jvm.Cond.publicMethod ({ cls := "java/lang/Integer", name := "compareTo", desc := "(Ljava/lang/Object;)I" } : Jvm.MethodName)) ∈ lw_tbl := lw_at lw_m2 121 rfl
theorem q455 : (Jvm.Cond.code ({ cls := "java/lang/Integer", name := "compareTo", desc := "(Ljava/lang/Object;)I" } : Jvm.MethodName) prog_26_method_63_code (2 : Nat) (Option.some Jvm.ClassFile.FieldType.int)) ∈ lw_all := lw_g (lw_at lw_m2 122 rfl) rfl
theorem q456 : (Jvm.Cond.classLink "java/lang/Integer" (1 : Nat) "java/lang/Integer") ∈ lw_all := lw_g (lw_at lw_m2 123 rfl) rfl
theorem q457 : (Jvm.Cond.methodLink "java/lang/Integer" (284 : Nat) ({ cls := "java/lang/Integer", name := "compareTo", desc := "(Ljava/lang/Integer;)I" } : Jvm.MethodName)) ∈ lw_all := lw_g (lw_at lw_m2 124 rfl) rfl
theorem q458 : (Jvm.Cond.instanceMethod ({ cls := "java/lang/Integer", name := "compareTo", desc := "(Ljava/lang/Integer;)I" } : Jvm.MethodName)) ∈ lw_all := lw_g (lw_at lw_m2 125 rfl) rfl
theorem q459 : (Jvm.Cond.selects "java/lang/Integer" ({ cls := "java/lang/Integer", name := "compareTo", desc := "(Ljava/lang/Integer;)I" } : Jvm.MethodName) ({ cls := "java/lang/Integer", name := "compareTo", desc := "(Ljava/lang/Integer;)I" } : Jvm.MethodName)) ∈ lw_all := lw_g (lw_at lw_m2 126 rfl) rfl
theorem q460 : (Jvm.Cond.code ({ cls := "java/lang/Integer", name := "compareTo", desc := "(Ljava/lang/Integer;)I" } : Jvm.MethodName) prog_26_method_39_code (2 : Nat) (Option.some Jvm.ClassFile.FieldType.int)) ∈ lw_all := lw_g (lw_at lw_m2 127 rfl) rfl
theorem q461 : (Jvm.Cond.methodLink "java/lang/Integer" (259 : Nat) ({ cls := "java/lang/Integer", name := "compare", desc := "(II)I" } : Jvm.MethodName)) ∈ lw_all := lw_g (lw_at lw_m2 128 rfl) rfl
theorem q560 : (Jvm.Cond.static ({ cls := "java/lang/Integer", name := "numberOfLeadingZeros", desc := "(I)I" } : Jvm.MethodName)) ∈ lw_all := lw_g (lw_at lw_m2 227 rfl) rfl
theorem q561 : (Jvm.Cond.code ({ cls := "java/lang/Integer", name := "numberOfLeadingZeros", desc := "(I)I" } : Jvm.MethodName) prog_26_method_47_code (2 : Nat) (Option.some Jvm.ClassFile.FieldType.int)) ∈ lw_all := lw_g (lw_at lw_m2 228 rfl) rfl
theorem q562 : (Jvm.Cond.constant "java/lang/Integer" (264 : Nat) (65536 : Int32)) ∈ lw_all := lw_g (lw_at lw_m2 229 rfl) rfl
theorem q569 : (Jvm.Cond.static ({ cls := "java/lang/Integer", name := "numberOfTrailingZeros", desc := "(I)I" } : Jvm.MethodName)) ∈ lw_all := lw_g (lw_at lw_m2 236 rfl) rfl
theorem q570 : (Jvm.Cond.code ({ cls := "java/lang/Integer", name := "numberOfTrailingZeros", desc := "(I)I" } : Jvm.MethodName) prog_26_method_48_code (2 : Nat) (Option.some Jvm.ClassFile.FieldType.int)) ∈ lw_all := lw_g (lw_at lw_m2 237 rfl) rfl
theorem q1349 : (Jvm.Cond.static ({ cls := "java/lang/Integer", name := "valueOf", desc := "(I)Ljava/lang/Integer;" } : Jvm.MethodName)) ∈ lw_all := lw_g (lw_at lw_m6 56 rfl) rfl
theorem q1350 : (Jvm.Cond.code ({ cls := "java/lang/Integer", name := "valueOf", desc := "(I)Ljava/lang/Integer;" } : Jvm.MethodName) prog_26_method_22_code (1 : Nat) (Option.some (Jvm.ClassFile.FieldType.object "java/lang/Integer"))) ∈ lw_all := lw_g (lw_at lw_m6 57 rfl) rfl
theorem q1351 : (Jvm.Cond.fieldLink "java/lang/Integer" (191 : Nat) "java/lang/Integer$IntegerCache" "high" "I") ∈ lw_all := lw_g (lw_at lw_m6 58 rfl) rfl
theorem q1353 : (Jvm.Cond.fieldLink "java/lang/Integer" (195 : Nat) "java/lang/Integer$IntegerCache" "cache" "[Ljava/lang/Integer;") ∈ lw_all := lw_g (lw_at lw_m6 60 rfl) rfl
theorem q1355 : (Jvm.Cond.instantiable "java/lang/Integer" (1 : Nat)) ∈ lw_all := lw_g (lw_at lw_m6 62 rfl) rfl
theorem q1356 : (Jvm.Cond.methodLink "java/lang/Integer" (199 : Nat) ({ cls := "java/lang/Integer", name := "<init>", desc := "(I)V" } : Jvm.MethodName)) ∈ lw_all := lw_g (lw_at lw_m6 63 rfl) rfl
theorem q1357 : (Jvm.Cond.instanceMethod ({ cls := "java/lang/Integer", name := "<init>", desc := "(I)V" } : Jvm.MethodName)) ∈ lw_all := lw_g (lw_at lw_m6 64 rfl) rfl
theorem q1358 : (Jvm.Cond.code ({ cls := "java/lang/Integer", name := "<init>", desc := "(I)V" } : Jvm.MethodName) prog_26_method_23_code (2 : Nat) (Option.none : Option Jvm.ClassFile.FieldType)) ∈ lw_all := lw_g (lw_at lw_m6 65 rfl) rfl
theorem q1359 : (Jvm.Cond.methodLink "java/lang/Integer" (202 : Nat) ({ cls := "java/lang/Number", name := "<init>", desc := "()V" } : Jvm.MethodName)) ∈ lw_all := lw_g (lw_at lw_m6 66 rfl) rfl
theorem q1363 : (Jvm.Cond.fieldLink "java/lang/Integer" (205 : Nat) "java/lang/Integer" "value" "I") ∈ lw_all := lw_g (lw_at lw_m6 70 rfl) rfl
theorem q1364 : (Jvm.Cond.laysFinal "java/lang/Integer" "java/lang/Integer" "value" "I") ∈ lw_all := lw_g (lw_at lw_m6 71 rfl) rfl
theorem q1365 : (Jvm.Cond.soleField "java/lang/Integer" "value") ∈ lw_all := lw_g (lw_at lw_m6 72 rfl) rfl
theorem q1366 : (Jvm.Cond.superclass "java/lang/Integer" "java/lang/Number") ∈ lw_all := lw_g (lw_at lw_m6 73 rfl) rfl
theorem q1443 : (Jvm.Cond.selects "java/lang/Integer" ({ cls := "java/lang/Object", name := "getClass", desc := "()Ljava/lang/Class;" } : Jvm.MethodName) ({ cls := "java/lang/Object", name := "getClass", desc := "()Ljava/lang/Class;" } : Jvm.MethodName)) ∈ lw_all := lw_g (lw_at lw_m6 150 rfl) rfl
theorem q1688 : (Jvm.Cond.selects "java/lang/Integer" ({ cls := "java/lang/Object", name := "equals", desc := "(Ljava/lang/Object;)Z" } : Jvm.MethodName) ({ cls := "java/lang/Integer", name := "equals", desc := "(Ljava/lang/Object;)Z" } : Jvm.MethodName)) ∈ lw_all := lw_g (lw_at lw_m7 155 rfl) rfl
theorem q1689 : (Jvm.Cond.instanceMethod ({ cls := "java/lang/Integer", name := "equals", desc := "(Ljava/lang/Object;)Z" } : Jvm.MethodName)) ∈ lw_all := lw_g (lw_at lw_m7 156 rfl) rfl
theorem q1690 : (Jvm.Cond.code ({ cls := "java/lang/Integer", name := "equals", desc := "(Ljava/lang/Object;)Z" } : Jvm.MethodName) prog_26_method_34_code (2 : Nat) (Option.some Jvm.ClassFile.FieldType.boolean)) ∈ lw_all := lw_g (lw_at lw_m7 157 rfl) rfl
theorem q1691 : (Jvm.Cond.methodLink "java/lang/Integer" (211 : Nat) ({ cls := "java/lang/Integer", name := "intValue", desc := "()I" } : Jvm.MethodName)) ∈ lw_all := lw_g (lw_at lw_m7 158 rfl) rfl
theorem q1692 : (Jvm.Cond.instanceMethod ({ cls := "java/lang/Integer", name := "intValue", desc := "()I" } : Jvm.MethodName)) ∈ lw_all := lw_g (lw_at lw_m7 159 rfl) rfl
theorem q1693 : (Jvm.Cond.selects "java/lang/Integer" ({ cls := "java/lang/Integer", name := "intValue", desc := "()I" } : Jvm.MethodName) ({ cls := "java/lang/Integer", name := "intValue", desc := "()I" } : Jvm.MethodName)) ∈ lw_all := lw_g (lw_at lw_m7 160 rfl) rfl
theorem q1694 : (Jvm.Cond.code ({ cls := "java/lang/Integer", name := "intValue", desc := "()I" } : Jvm.MethodName) prog_26_method_27_code (1 : Nat) (Option.some Jvm.ClassFile.FieldType.int)) ∈ lw_all := lw_g (lw_at lw_m7 161 rfl) rfl
theorem q2568 : (Jvm.Cond.static ({ cls := "java/lang/Integer", name := "bitCount", desc := "(I)I" } : Jvm.MethodName)) ∈ lw_all := lw_g (lw_at lw_m11 75 rfl) rfl
theorem q2569 : (Jvm.Cond.code ({ cls := "java/lang/Integer", name := "bitCount", desc := "(I)I" } : Jvm.MethodName) prog_26_method_49_code (1 : Nat) (Option.some Jvm.ClassFile.FieldType.int)) ∈ lw_all := lw_g (lw_at lw_m11 76 rfl) rfl
theorem q2570 : (Jvm.Cond.constant "java/lang/Integer" (265 : Nat) (1431655765 : Int32)) ∈ lw_all := lw_g (lw_at lw_m11 77 rfl) rfl
theorem q2571 : (Jvm.Cond.constant "java/lang/Integer" (266 : Nat) (858993459 : Int32)) ∈ lw_all := lw_g (lw_at lw_m11 78 rfl) rfl
theorem q2572 : (Jvm.Cond.constant "java/lang/Integer" (267 : Nat) (252645135 : Int32)) ∈ lw_all := lw_g (lw_at lw_m11 79 rfl) rfl
theorem q3121 : (Jvm.Cond.castable "java/lang/Integer" "java/lang/Object") ∈ lw_tbl := lw_at lw_m13 148 rfl
theorem in_J8 : ∀ w ∈ wsJ80, w ∈ lw_all := lw_in wsJ80 [1364] (by decide +kernel) (by decide +kernel)

/-! java/lang/String -/
set_option maxRecDepth 100000
def RJ9 : String := "java/lang/String"
abbrev cJ9_compareTo : ByteArray := prog_33_method_162_code
def yJ9_compareTo : MethodName := ⟨RJ9, "compareTo", "(Ljava/lang/Object;)I"⟩
def dkwJ9_compareTo_0 : List UInt8 := [42, 43, 192, 0, 10, 182, 4, 60, 172]
abbrev dktJ9_compareTo_0 : List UInt8 := dkwJ9_compareTo_0 ++ []
theorem dksJ9_compareTo_0 : cJ9_compareTo.data.toList.drop 0 = dktJ9_compareTo_0 := by decide +kernel
theorem dJ9_compareTo_0 : decode cJ9_compareTo 0 = .ok (.aload_n 0, 1) := dk_42 (dk_at dksJ9_compareTo_0 0 rfl rfl)
theorem dJ9_compareTo_1 : decode cJ9_compareTo 1 = .ok (.aload_n 1, 1) := dk_43 (dk_at dksJ9_compareTo_0 1 rfl rfl)
theorem dJ9_compareTo_2 : decode cJ9_compareTo 2 = .ok (.checkcast 10, 3) := dk_192 0 10 (dk_at dksJ9_compareTo_0 2 rfl rfl)
theorem dJ9_compareTo_5 : decode cJ9_compareTo 5 = .ok (.invokevirtual 1084, 3) := dk_182 4 60 (dk_at dksJ9_compareTo_0 5 rfl rfl)
theorem dJ9_compareTo_8 : decode cJ9_compareTo 8 = .ok (.ireturn, 1) := dk_172 (dk_at dksJ9_compareTo_0 8 rfl rfl)
abbrev cJ9_compareTo_2 : ByteArray := prog_33_method_71_code
def yJ9_compareTo_2 : MethodName := ⟨RJ9, "compareTo", "(Ljava/lang/String;)I"⟩
def dkwJ9_compareTo_2_2 : List UInt8 := [154, 0, 11, 44, 45, 184, 2, 79, 167, 0, 8, 44, 45, 184, 2, 82, 172]
abbrev dktJ9_compareTo_2_2 : List UInt8 := dkwJ9_compareTo_2_2 ++ []
def dkwJ9_compareTo_2_1 : List UInt8 := [160, 0, 22, 21, 4, 154, 0, 11, 44, 45, 184, 2, 74, 167, 0, 8, 44, 45, 184, 2, 78, 172, 21, 4]
abbrev dktJ9_compareTo_2_1 : List UInt8 := dkwJ9_compareTo_2_1 ++ dktJ9_compareTo_2_2
def dkwJ9_compareTo_2_0 : List UInt8 := [42, 180, 0, 9, 77, 43, 180, 0, 9, 78, 42, 182, 1, 79, 54, 4, 21, 4, 43, 182, 1, 79]
abbrev dktJ9_compareTo_2_0 : List UInt8 := dkwJ9_compareTo_2_0 ++ dktJ9_compareTo_2_1
theorem dksJ9_compareTo_2_0 : cJ9_compareTo_2.data.toList.drop 0 = dktJ9_compareTo_2_0 := by decide +kernel
theorem dksJ9_compareTo_2_1 : cJ9_compareTo_2.data.toList.drop 22 = dktJ9_compareTo_2_1 := dk_seg dksJ9_compareTo_2_0 22 rfl rfl
theorem dksJ9_compareTo_2_2 : cJ9_compareTo_2.data.toList.drop 46 = dktJ9_compareTo_2_2 := dk_seg dksJ9_compareTo_2_1 24 rfl rfl
theorem dJ9_compareTo_2_0 : decode cJ9_compareTo_2 0 = .ok (.aload_n 0, 1) := dk_42 (dk_at dksJ9_compareTo_2_0 0 rfl rfl)
theorem dJ9_compareTo_2_1 : decode cJ9_compareTo_2 1 = .ok (.getfield 9, 3) := dk_180 0 9 (dk_at dksJ9_compareTo_2_0 1 rfl rfl)
theorem dJ9_compareTo_2_4 : decode cJ9_compareTo_2 4 = .ok (.astore_n 2, 1) := dk_77 (dk_at dksJ9_compareTo_2_0 4 rfl rfl)
theorem dJ9_compareTo_2_5 : decode cJ9_compareTo_2 5 = .ok (.aload_n 1, 1) := dk_43 (dk_at dksJ9_compareTo_2_0 5 rfl rfl)
theorem dJ9_compareTo_2_6 : decode cJ9_compareTo_2 6 = .ok (.getfield 9, 3) := dk_180 0 9 (dk_at dksJ9_compareTo_2_0 6 rfl rfl)
theorem dJ9_compareTo_2_9 : decode cJ9_compareTo_2 9 = .ok (.astore_n 3, 1) := dk_78 (dk_at dksJ9_compareTo_2_0 9 rfl rfl)
theorem dJ9_compareTo_2_10 : decode cJ9_compareTo_2 10 = .ok (.aload_n 0, 1) := dk_42 (dk_at dksJ9_compareTo_2_0 10 rfl rfl)
theorem dJ9_compareTo_2_11 : decode cJ9_compareTo_2 11 = .ok (.invokevirtual 335, 3) := dk_182 1 79 (dk_at dksJ9_compareTo_2_0 11 rfl rfl)
theorem dJ9_compareTo_2_14 : decode cJ9_compareTo_2 14 = .ok (.istore 4, 2) := dk_54 4 (dk_at dksJ9_compareTo_2_0 14 rfl rfl)
theorem dJ9_compareTo_2_16 : decode cJ9_compareTo_2 16 = .ok (.iload 4, 2) := dk_21 4 (dk_at dksJ9_compareTo_2_0 16 rfl rfl)
theorem dJ9_compareTo_2_18 : decode cJ9_compareTo_2 18 = .ok (.aload_n 1, 1) := dk_43 (dk_at dksJ9_compareTo_2_0 18 rfl rfl)
theorem dJ9_compareTo_2_19 : decode cJ9_compareTo_2 19 = .ok (.invokevirtual 335, 3) := dk_182 1 79 (dk_at dksJ9_compareTo_2_0 19 rfl rfl)
theorem dJ9_compareTo_2_22 : decode cJ9_compareTo_2 22 = .ok (.if_icmp .ne 22, 3) := dk_160 0 22 (dk_at dksJ9_compareTo_2_1 0 rfl rfl)
theorem dJ9_compareTo_2_25 : decode cJ9_compareTo_2 25 = .ok (.iload 4, 2) := dk_21 4 (dk_at dksJ9_compareTo_2_1 3 rfl rfl)
theorem dJ9_compareTo_2_27 : decode cJ9_compareTo_2 27 = .ok (.ifCond .ne 11, 3) := dk_154 0 11 (dk_at dksJ9_compareTo_2_1 5 rfl rfl)
theorem dJ9_compareTo_2_30 : decode cJ9_compareTo_2 30 = .ok (.aload_n 2, 1) := dk_44 (dk_at dksJ9_compareTo_2_1 8 rfl rfl)
theorem dJ9_compareTo_2_31 : decode cJ9_compareTo_2 31 = .ok (.aload_n 3, 1) := dk_45 (dk_at dksJ9_compareTo_2_1 9 rfl rfl)
theorem dJ9_compareTo_2_32 : decode cJ9_compareTo_2 32 = .ok (.invokestatic 586, 3) := dk_184 2 74 (dk_at dksJ9_compareTo_2_1 10 rfl rfl)
theorem dJ9_compareTo_2_35 : decode cJ9_compareTo_2 35 = .ok (.goto 8, 3) := dk_167 0 8 (dk_at dksJ9_compareTo_2_1 13 rfl rfl)
theorem dJ9_compareTo_2_38 : decode cJ9_compareTo_2 38 = .ok (.aload_n 2, 1) := dk_44 (dk_at dksJ9_compareTo_2_1 16 rfl rfl)
theorem dJ9_compareTo_2_39 : decode cJ9_compareTo_2 39 = .ok (.aload_n 3, 1) := dk_45 (dk_at dksJ9_compareTo_2_1 17 rfl rfl)
theorem dJ9_compareTo_2_40 : decode cJ9_compareTo_2 40 = .ok (.invokestatic 590, 3) := dk_184 2 78 (dk_at dksJ9_compareTo_2_1 18 rfl rfl)
theorem dJ9_compareTo_2_43 : decode cJ9_compareTo_2 43 = .ok (.ireturn, 1) := dk_172 (dk_at dksJ9_compareTo_2_1 21 rfl rfl)
theorem dJ9_compareTo_2_44 : decode cJ9_compareTo_2 44 = .ok (.iload 4, 2) := dk_21 4 (dk_at dksJ9_compareTo_2_1 22 rfl rfl)
theorem dJ9_compareTo_2_46 : decode cJ9_compareTo_2 46 = .ok (.ifCond .ne 11, 3) := dk_154 0 11 (dk_at dksJ9_compareTo_2_2 0 rfl rfl)
theorem dJ9_compareTo_2_49 : decode cJ9_compareTo_2 49 = .ok (.aload_n 2, 1) := dk_44 (dk_at dksJ9_compareTo_2_2 3 rfl rfl)
theorem dJ9_compareTo_2_50 : decode cJ9_compareTo_2 50 = .ok (.aload_n 3, 1) := dk_45 (dk_at dksJ9_compareTo_2_2 4 rfl rfl)
theorem dJ9_compareTo_2_51 : decode cJ9_compareTo_2 51 = .ok (.invokestatic 591, 3) := dk_184 2 79 (dk_at dksJ9_compareTo_2_2 5 rfl rfl)
theorem dJ9_compareTo_2_54 : decode cJ9_compareTo_2 54 = .ok (.goto 8, 3) := dk_167 0 8 (dk_at dksJ9_compareTo_2_2 8 rfl rfl)
theorem dJ9_compareTo_2_57 : decode cJ9_compareTo_2 57 = .ok (.aload_n 2, 1) := dk_44 (dk_at dksJ9_compareTo_2_2 11 rfl rfl)
theorem dJ9_compareTo_2_58 : decode cJ9_compareTo_2 58 = .ok (.aload_n 3, 1) := dk_45 (dk_at dksJ9_compareTo_2_2 12 rfl rfl)
theorem dJ9_compareTo_2_59 : decode cJ9_compareTo_2 59 = .ok (.invokestatic 594, 3) := dk_184 2 82 (dk_at dksJ9_compareTo_2_2 13 rfl rfl)
theorem dJ9_compareTo_2_62 : decode cJ9_compareTo_2 62 = .ok (.ireturn, 1) := dk_172 (dk_at dksJ9_compareTo_2_2 16 rfl rfl)
abbrev cJ9_coder : ByteArray := prog_33_method_152_code
def yJ9_coder : MethodName := ⟨RJ9, "coder", "()B"⟩
def dkwJ9_coder_0 : List UInt8 := [178, 0, 38, 153, 0, 10, 42, 180, 0, 15, 167, 0, 4, 4, 172]
abbrev dktJ9_coder_0 : List UInt8 := dkwJ9_coder_0 ++ []
theorem dksJ9_coder_0 : cJ9_coder.data.toList.drop 0 = dktJ9_coder_0 := by decide +kernel
theorem dJ9_coder_0 : decode cJ9_coder 0 = .ok (.getstatic 38, 3) := dk_178 0 38 (dk_at dksJ9_coder_0 0 rfl rfl)
theorem dJ9_coder_3 : decode cJ9_coder 3 = .ok (.ifCond .eq 10, 3) := dk_153 0 10 (dk_at dksJ9_coder_0 3 rfl rfl)
theorem dJ9_coder_6 : decode cJ9_coder 6 = .ok (.aload_n 0, 1) := dk_42 (dk_at dksJ9_coder_0 6 rfl rfl)
theorem dJ9_coder_7 : decode cJ9_coder 7 = .ok (.getfield 15, 3) := dk_180 0 15 (dk_at dksJ9_coder_0 7 rfl rfl)
theorem dJ9_coder_10 : decode cJ9_coder 10 = .ok (.goto 4, 3) := dk_167 0 4 (dk_at dksJ9_coder_0 10 rfl rfl)
theorem dJ9_coder_13 : decode cJ9_coder 13 = .ok (.iconst 1, 1) := dk_4 (dk_at dksJ9_coder_0 13 rfl rfl)
theorem dJ9_coder_14 : decode cJ9_coder 14 = .ok (.ireturn, 1) := dk_172 (dk_at dksJ9_coder_0 14 rfl rfl)
abbrev cJ9_indexOf : ByteArray := prog_33_method_79_code
def yJ9_indexOf : MethodName := ⟨RJ9, "indexOf", "(I)I"⟩
def dkwJ9_indexOf_0 : List UInt8 := [42, 27, 3, 182, 2, 121, 172]
abbrev dktJ9_indexOf_0 : List UInt8 := dkwJ9_indexOf_0 ++ []
theorem dksJ9_indexOf_0 : cJ9_indexOf.data.toList.drop 0 = dktJ9_indexOf_0 := by decide +kernel
theorem dJ9_indexOf_0 : decode cJ9_indexOf 0 = .ok (.aload_n 0, 1) := dk_42 (dk_at dksJ9_indexOf_0 0 rfl rfl)
theorem dJ9_indexOf_1 : decode cJ9_indexOf 1 = .ok (.iload_n 1, 1) := dk_27 (dk_at dksJ9_indexOf_0 1 rfl rfl)
theorem dJ9_indexOf_2 : decode cJ9_indexOf 2 = .ok (.iconst 0, 1) := dk_3 (dk_at dksJ9_indexOf_0 2 rfl rfl)
theorem dJ9_indexOf_3 : decode cJ9_indexOf 3 = .ok (.invokevirtual 633, 3) := dk_182 2 121 (dk_at dksJ9_indexOf_0 3 rfl rfl)
theorem dJ9_indexOf_6 : decode cJ9_indexOf 6 = .ok (.ireturn, 1) := dk_172 (dk_at dksJ9_indexOf_0 6 rfl rfl)
abbrev cJ9_indexOf_2 : ByteArray := prog_33_method_80_code
def yJ9_indexOf_2 : MethodName := ⟨RJ9, "indexOf", "(II)I"⟩
def dkwJ9_indexOf_2_1 : List UInt8 := [180, 0, 9, 27, 28, 42, 182, 1, 249, 184, 2, 128, 172]
abbrev dktJ9_indexOf_2_1 : List UInt8 := dkwJ9_indexOf_2_1 ++ []
def dkwJ9_indexOf_2_0 : List UInt8 := [42, 182, 1, 236, 153, 0, 19, 42, 180, 0, 9, 27, 28, 42, 182, 1, 249, 184, 2, 125, 167, 0, 16, 42]
abbrev dktJ9_indexOf_2_0 : List UInt8 := dkwJ9_indexOf_2_0 ++ dktJ9_indexOf_2_1
theorem dksJ9_indexOf_2_0 : cJ9_indexOf_2.data.toList.drop 0 = dktJ9_indexOf_2_0 := by decide +kernel
theorem dksJ9_indexOf_2_1 : cJ9_indexOf_2.data.toList.drop 24 = dktJ9_indexOf_2_1 := dk_seg dksJ9_indexOf_2_0 24 rfl rfl
theorem dJ9_indexOf_2_0 : decode cJ9_indexOf_2 0 = .ok (.aload_n 0, 1) := dk_42 (dk_at dksJ9_indexOf_2_0 0 rfl rfl)
theorem dJ9_indexOf_2_1 : decode cJ9_indexOf_2 1 = .ok (.invokevirtual 492, 3) := dk_182 1 236 (dk_at dksJ9_indexOf_2_0 1 rfl rfl)
theorem dJ9_indexOf_2_4 : decode cJ9_indexOf_2 4 = .ok (.ifCond .eq 19, 3) := dk_153 0 19 (dk_at dksJ9_indexOf_2_0 4 rfl rfl)
theorem dJ9_indexOf_2_7 : decode cJ9_indexOf_2 7 = .ok (.aload_n 0, 1) := dk_42 (dk_at dksJ9_indexOf_2_0 7 rfl rfl)
theorem dJ9_indexOf_2_8 : decode cJ9_indexOf_2 8 = .ok (.getfield 9, 3) := dk_180 0 9 (dk_at dksJ9_indexOf_2_0 8 rfl rfl)
theorem dJ9_indexOf_2_11 : decode cJ9_indexOf_2 11 = .ok (.iload_n 1, 1) := dk_27 (dk_at dksJ9_indexOf_2_0 11 rfl rfl)
theorem dJ9_indexOf_2_12 : decode cJ9_indexOf_2 12 = .ok (.iload_n 2, 1) := dk_28 (dk_at dksJ9_indexOf_2_0 12 rfl rfl)
theorem dJ9_indexOf_2_13 : decode cJ9_indexOf_2 13 = .ok (.aload_n 0, 1) := dk_42 (dk_at dksJ9_indexOf_2_0 13 rfl rfl)
theorem dJ9_indexOf_2_14 : decode cJ9_indexOf_2 14 = .ok (.invokevirtual 505, 3) := dk_182 1 249 (dk_at dksJ9_indexOf_2_0 14 rfl rfl)
theorem dJ9_indexOf_2_17 : decode cJ9_indexOf_2 17 = .ok (.invokestatic 637, 3) := dk_184 2 125 (dk_at dksJ9_indexOf_2_0 17 rfl rfl)
theorem dJ9_indexOf_2_20 : decode cJ9_indexOf_2 20 = .ok (.goto 16, 3) := dk_167 0 16 (dk_at dksJ9_indexOf_2_0 20 rfl rfl)
theorem dJ9_indexOf_2_23 : decode cJ9_indexOf_2 23 = .ok (.aload_n 0, 1) := dk_42 (dk_at dksJ9_indexOf_2_0 23 rfl rfl)
theorem dJ9_indexOf_2_24 : decode cJ9_indexOf_2 24 = .ok (.getfield 9, 3) := dk_180 0 9 (dk_at dksJ9_indexOf_2_1 0 rfl rfl)
theorem dJ9_indexOf_2_27 : decode cJ9_indexOf_2 27 = .ok (.iload_n 1, 1) := dk_27 (dk_at dksJ9_indexOf_2_1 3 rfl rfl)
theorem dJ9_indexOf_2_28 : decode cJ9_indexOf_2 28 = .ok (.iload_n 2, 1) := dk_28 (dk_at dksJ9_indexOf_2_1 4 rfl rfl)
theorem dJ9_indexOf_2_29 : decode cJ9_indexOf_2 29 = .ok (.aload_n 0, 1) := dk_42 (dk_at dksJ9_indexOf_2_1 5 rfl rfl)
theorem dJ9_indexOf_2_30 : decode cJ9_indexOf_2 30 = .ok (.invokevirtual 505, 3) := dk_182 1 249 (dk_at dksJ9_indexOf_2_1 6 rfl rfl)
theorem dJ9_indexOf_2_33 : decode cJ9_indexOf_2 33 = .ok (.invokestatic 640, 3) := dk_184 2 128 (dk_at dksJ9_indexOf_2_1 9 rfl rfl)
theorem dJ9_indexOf_2_36 : decode cJ9_indexOf_2 36 = .ok (.ireturn, 1) := dk_172 (dk_at dksJ9_indexOf_2_1 12 rfl rfl)
abbrev cJ9_isLatin1 : ByteArray := prog_33_method_154_code
def yJ9_isLatin1 : MethodName := ⟨RJ9, "isLatin1", "()Z"⟩
def dkwJ9_isLatin1_0 : List UInt8 := [178, 0, 38, 153, 0, 14, 42, 180, 0, 15, 154, 0, 7, 4, 167, 0, 4, 3, 172]
abbrev dktJ9_isLatin1_0 : List UInt8 := dkwJ9_isLatin1_0 ++ []
theorem dksJ9_isLatin1_0 : cJ9_isLatin1.data.toList.drop 0 = dktJ9_isLatin1_0 := by decide +kernel
theorem dJ9_isLatin1_0 : decode cJ9_isLatin1 0 = .ok (.getstatic 38, 3) := dk_178 0 38 (dk_at dksJ9_isLatin1_0 0 rfl rfl)
theorem dJ9_isLatin1_3 : decode cJ9_isLatin1 3 = .ok (.ifCond .eq 14, 3) := dk_153 0 14 (dk_at dksJ9_isLatin1_0 3 rfl rfl)
theorem dJ9_isLatin1_6 : decode cJ9_isLatin1 6 = .ok (.aload_n 0, 1) := dk_42 (dk_at dksJ9_isLatin1_0 6 rfl rfl)
theorem dJ9_isLatin1_7 : decode cJ9_isLatin1 7 = .ok (.getfield 15, 3) := dk_180 0 15 (dk_at dksJ9_isLatin1_0 7 rfl rfl)
theorem dJ9_isLatin1_10 : decode cJ9_isLatin1 10 = .ok (.ifCond .ne 7, 3) := dk_154 0 7 (dk_at dksJ9_isLatin1_0 10 rfl rfl)
theorem dJ9_isLatin1_13 : decode cJ9_isLatin1 13 = .ok (.iconst 1, 1) := dk_4 (dk_at dksJ9_isLatin1_0 13 rfl rfl)
theorem dJ9_isLatin1_14 : decode cJ9_isLatin1 14 = .ok (.goto 4, 3) := dk_167 0 4 (dk_at dksJ9_isLatin1_0 14 rfl rfl)
theorem dJ9_isLatin1_17 : decode cJ9_isLatin1 17 = .ok (.iconst 0, 1) := dk_3 (dk_at dksJ9_isLatin1_0 17 rfl rfl)
theorem dJ9_isLatin1_18 : decode cJ9_isLatin1 18 = .ok (.ireturn, 1) := dk_172 (dk_at dksJ9_isLatin1_0 18 rfl rfl)
abbrev cJ9_length : ByteArray := prog_33_method_54_code
def yJ9_length : MethodName := ⟨RJ9, "length", "()I"⟩
def dkwJ9_length_0 : List UInt8 := [42, 180, 0, 9, 190, 42, 182, 1, 79, 122, 172]
abbrev dktJ9_length_0 : List UInt8 := dkwJ9_length_0 ++ []
theorem dksJ9_length_0 : cJ9_length.data.toList.drop 0 = dktJ9_length_0 := by decide +kernel
theorem dJ9_length_0 : decode cJ9_length 0 = .ok (.aload_n 0, 1) := dk_42 (dk_at dksJ9_length_0 0 rfl rfl)
theorem dJ9_length_1 : decode cJ9_length 1 = .ok (.getfield 9, 3) := dk_180 0 9 (dk_at dksJ9_length_0 1 rfl rfl)
theorem dJ9_length_4 : decode cJ9_length 4 = .ok (.arraylength, 1) := dk_190 (dk_at dksJ9_length_0 4 rfl rfl)
theorem dJ9_length_5 : decode cJ9_length 5 = .ok (.aload_n 0, 1) := dk_42 (dk_at dksJ9_length_0 5 rfl rfl)
theorem dJ9_length_6 : decode cJ9_length 6 = .ok (.invokevirtual 335, 3) := dk_182 1 79 (dk_at dksJ9_length_0 6 rfl rfl)
theorem dJ9_length_9 : decode cJ9_length 9 = .ok (.ishr, 1) := dk_122 (dk_at dksJ9_length_0 9 rfl rfl)
theorem dJ9_length_10 : decode cJ9_length 10 = .ok (.ireturn, 1) := dk_172 (dk_at dksJ9_length_0 10 rfl rfl)
abbrev cJ9_checkBoundsBeginEnd : ByteArray := prog_33_method_158_code
def yJ9_checkBoundsBeginEnd : MethodName := ⟨RJ9, "checkBoundsBeginEnd", "(III)V"⟩
def dkwJ9_checkBoundsBeginEnd_0 : List UInt8 := [26, 27, 28, 178, 4, 29, 184, 4, 38, 87, 177]
abbrev dktJ9_checkBoundsBeginEnd_0 : List UInt8 := dkwJ9_checkBoundsBeginEnd_0 ++ []
theorem dksJ9_checkBoundsBeginEnd_0 : cJ9_checkBoundsBeginEnd.data.toList.drop 0 = dktJ9_checkBoundsBeginEnd_0 := by decide +kernel
theorem dJ9_checkBoundsBeginEnd_0 : decode cJ9_checkBoundsBeginEnd 0 = .ok (.iload_n 0, 1) := dk_26 (dk_at dksJ9_checkBoundsBeginEnd_0 0 rfl rfl)
theorem dJ9_checkBoundsBeginEnd_1 : decode cJ9_checkBoundsBeginEnd 1 = .ok (.iload_n 1, 1) := dk_27 (dk_at dksJ9_checkBoundsBeginEnd_0 1 rfl rfl)
theorem dJ9_checkBoundsBeginEnd_2 : decode cJ9_checkBoundsBeginEnd 2 = .ok (.iload_n 2, 1) := dk_28 (dk_at dksJ9_checkBoundsBeginEnd_0 2 rfl rfl)
theorem dJ9_checkBoundsBeginEnd_3 : decode cJ9_checkBoundsBeginEnd 3 = .ok (.getstatic 1053, 3) := dk_178 4 29 (dk_at dksJ9_checkBoundsBeginEnd_0 3 rfl rfl)
theorem dJ9_checkBoundsBeginEnd_6 : decode cJ9_checkBoundsBeginEnd 6 = .ok (.invokestatic 1062, 3) := dk_184 4 38 (dk_at dksJ9_checkBoundsBeginEnd_0 6 rfl rfl)
theorem dJ9_checkBoundsBeginEnd_9 : decode cJ9_checkBoundsBeginEnd 9 = .ok (.pop, 1) := dk_87 (dk_at dksJ9_checkBoundsBeginEnd_0 9 rfl rfl)
theorem dJ9_checkBoundsBeginEnd_10 : decode cJ9_checkBoundsBeginEnd 10 = .ok (.return_, 1) := dk_177 (dk_at dksJ9_checkBoundsBeginEnd_0 10 rfl rfl)
abbrev cJ9_equals : ByteArray := prog_33_method_66_code
def yJ9_equals : MethodName := ⟨RJ9, "equals", "(Ljava/lang/Object;)Z"⟩
def dkwJ9_equals_2 : List UInt8 := [184, 2, 29, 153, 0, 7, 4, 167, 0, 4, 3, 172]
abbrev dktJ9_equals_2 : List UInt8 := dkwJ9_equals_2 ++ []
def dkwJ9_equals_1 : List UInt8 := [153, 0, 14, 42, 180, 0, 15, 44, 180, 0, 15, 160, 0, 21, 42, 180, 0, 9, 44, 180, 0, 9]
abbrev dktJ9_equals_1 : List UInt8 := dkwJ9_equals_1 ++ dktJ9_equals_2
def dkwJ9_equals_0 : List UInt8 := [42, 43, 166, 0, 5, 4, 172, 43, 193, 0, 10, 153, 0, 43, 43, 192, 0, 10, 77, 178, 0, 38]
abbrev dktJ9_equals_0 : List UInt8 := dkwJ9_equals_0 ++ dktJ9_equals_1
theorem dksJ9_equals_0 : cJ9_equals.data.toList.drop 0 = dktJ9_equals_0 := by decide +kernel
theorem dksJ9_equals_1 : cJ9_equals.data.toList.drop 22 = dktJ9_equals_1 := dk_seg dksJ9_equals_0 22 rfl rfl
theorem dksJ9_equals_2 : cJ9_equals.data.toList.drop 44 = dktJ9_equals_2 := dk_seg dksJ9_equals_1 22 rfl rfl
theorem dJ9_equals_0 : decode cJ9_equals 0 = .ok (.aload_n 0, 1) := dk_42 (dk_at dksJ9_equals_0 0 rfl rfl)
theorem dJ9_equals_1 : decode cJ9_equals 1 = .ok (.aload_n 1, 1) := dk_43 (dk_at dksJ9_equals_0 1 rfl rfl)
theorem dJ9_equals_2 : decode cJ9_equals 2 = .ok (.if_acmp .ne 5, 3) := dk_166 0 5 (dk_at dksJ9_equals_0 2 rfl rfl)
theorem dJ9_equals_5 : decode cJ9_equals 5 = .ok (.iconst 1, 1) := dk_4 (dk_at dksJ9_equals_0 5 rfl rfl)
theorem dJ9_equals_6 : decode cJ9_equals 6 = .ok (.ireturn, 1) := dk_172 (dk_at dksJ9_equals_0 6 rfl rfl)
theorem dJ9_equals_7 : decode cJ9_equals 7 = .ok (.aload_n 1, 1) := dk_43 (dk_at dksJ9_equals_0 7 rfl rfl)
theorem dJ9_equals_8 : decode cJ9_equals 8 = .ok (.instanceof 10, 3) := dk_193 0 10 (dk_at dksJ9_equals_0 8 rfl rfl)
theorem dJ9_equals_11 : decode cJ9_equals 11 = .ok (.ifCond .eq 43, 3) := dk_153 0 43 (dk_at dksJ9_equals_0 11 rfl rfl)
theorem dJ9_equals_14 : decode cJ9_equals 14 = .ok (.aload_n 1, 1) := dk_43 (dk_at dksJ9_equals_0 14 rfl rfl)
theorem dJ9_equals_15 : decode cJ9_equals 15 = .ok (.checkcast 10, 3) := dk_192 0 10 (dk_at dksJ9_equals_0 15 rfl rfl)
theorem dJ9_equals_18 : decode cJ9_equals 18 = .ok (.astore_n 2, 1) := dk_77 (dk_at dksJ9_equals_0 18 rfl rfl)
theorem dJ9_equals_19 : decode cJ9_equals 19 = .ok (.getstatic 38, 3) := dk_178 0 38 (dk_at dksJ9_equals_0 19 rfl rfl)
theorem dJ9_equals_22 : decode cJ9_equals 22 = .ok (.ifCond .eq 14, 3) := dk_153 0 14 (dk_at dksJ9_equals_1 0 rfl rfl)
theorem dJ9_equals_25 : decode cJ9_equals 25 = .ok (.aload_n 0, 1) := dk_42 (dk_at dksJ9_equals_1 3 rfl rfl)
theorem dJ9_equals_26 : decode cJ9_equals 26 = .ok (.getfield 15, 3) := dk_180 0 15 (dk_at dksJ9_equals_1 4 rfl rfl)
theorem dJ9_equals_29 : decode cJ9_equals 29 = .ok (.aload_n 2, 1) := dk_44 (dk_at dksJ9_equals_1 7 rfl rfl)
theorem dJ9_equals_30 : decode cJ9_equals 30 = .ok (.getfield 15, 3) := dk_180 0 15 (dk_at dksJ9_equals_1 8 rfl rfl)
theorem dJ9_equals_33 : decode cJ9_equals 33 = .ok (.if_icmp .ne 21, 3) := dk_160 0 21 (dk_at dksJ9_equals_1 11 rfl rfl)
theorem dJ9_equals_36 : decode cJ9_equals 36 = .ok (.aload_n 0, 1) := dk_42 (dk_at dksJ9_equals_1 14 rfl rfl)
theorem dJ9_equals_37 : decode cJ9_equals 37 = .ok (.getfield 9, 3) := dk_180 0 9 (dk_at dksJ9_equals_1 15 rfl rfl)
theorem dJ9_equals_40 : decode cJ9_equals 40 = .ok (.aload_n 2, 1) := dk_44 (dk_at dksJ9_equals_1 18 rfl rfl)
theorem dJ9_equals_41 : decode cJ9_equals 41 = .ok (.getfield 9, 3) := dk_180 0 9 (dk_at dksJ9_equals_1 19 rfl rfl)
theorem dJ9_equals_44 : decode cJ9_equals 44 = .ok (.invokestatic 541, 3) := dk_184 2 29 (dk_at dksJ9_equals_2 0 rfl rfl)
theorem dJ9_equals_47 : decode cJ9_equals 47 = .ok (.ifCond .eq 7, 3) := dk_153 0 7 (dk_at dksJ9_equals_2 3 rfl rfl)
theorem dJ9_equals_50 : decode cJ9_equals 50 = .ok (.iconst 1, 1) := dk_4 (dk_at dksJ9_equals_2 6 rfl rfl)
theorem dJ9_equals_51 : decode cJ9_equals 51 = .ok (.goto 4, 3) := dk_167 0 4 (dk_at dksJ9_equals_2 7 rfl rfl)
theorem dJ9_equals_54 : decode cJ9_equals 54 = .ok (.iconst 0, 1) := dk_3 (dk_at dksJ9_equals_2 10 rfl rfl)
theorem dJ9_equals_55 : decode cJ9_equals 55 = .ok (.ireturn, 1) := dk_172 (dk_at dksJ9_equals_2 11 rfl rfl)
theorem q110 : (Jvm.Cond.initialized "java/lang/String") ∈ lw_all := lw_g (lw_at lw_m1 17 rfl) rfl
theorem q462 : (Jvm.Cond.castable "java/lang/String" "java/lang/Comparable") ∈ lw_tbl := lw_at lw_m2 129 rfl
theorem q463 : (Jvm.Cond.selects "java/lang/String" ({ cls := "java/lang/Comparable", name := "compareTo", desc := "(Ljava/lang/Object;)I" } : Jvm.MethodName) ({ cls := "java/lang/String", name := "compareTo", desc := "(Ljava/lang/Object;)I" } : Jvm.MethodName)) ∈ lw_all := lw_g (lw_at lw_m2 130 rfl) rfl
theorem q464 : (Jvm.Cond.unhidden "java/lang/String" "compareTo" "(Ljava/lang/Object;)I") ∈ lw_tbl := lw_at lw_m2 131 rfl
theorem q465 : (Jvm.Cond.instanceMethod ({ cls := "java/lang/String", name := "compareTo", desc := "(Ljava/lang/Object;)I" } : Jvm.MethodName)) ∈ lw_all := lw_g (lw_at lw_m2 132 rfl) rfl
theorem q466 : (Jvm.Cond.publicMethod ({ cls := "java/lang/String", name := "compareTo", desc := "(Ljava/lang/Object;)I" } : Jvm.MethodName)) ∈ lw_tbl := lw_at lw_m2 133 rfl
theorem q467 : (Jvm.Cond.code ({ cls := "java/lang/String", name := "compareTo", desc := "(Ljava/lang/Object;)I" } : Jvm.MethodName) prog_33_method_162_code (2 : Nat) (Option.some Jvm.ClassFile.FieldType.int)) ∈ lw_all := lw_g (lw_at lw_m2 134 rfl) rfl
theorem q468 : (Jvm.Cond.classLink "java/lang/String" (10 : Nat) "java/lang/String") ∈ lw_all := lw_g (lw_at lw_m2 135 rfl) rfl
theorem q469 : (Jvm.Cond.methodLink "java/lang/String" (1084 : Nat) ({ cls := "java/lang/String", name := "compareTo", desc := "(Ljava/lang/String;)I" } : Jvm.MethodName)) ∈ lw_all := lw_g (lw_at lw_m2 136 rfl) rfl
theorem q470 : (Jvm.Cond.instanceMethod ({ cls := "java/lang/String", name := "compareTo", desc := "(Ljava/lang/String;)I" } : Jvm.MethodName)) ∈ lw_all := lw_g (lw_at lw_m2 137 rfl) rfl
theorem q471 : (Jvm.Cond.selects "java/lang/String" ({ cls := "java/lang/String", name := "compareTo", desc := "(Ljava/lang/String;)I" } : Jvm.MethodName) ({ cls := "java/lang/String", name := "compareTo", desc := "(Ljava/lang/String;)I" } : Jvm.MethodName)) ∈ lw_all := lw_g (lw_at lw_m2 138 rfl) rfl
theorem q472 : (Jvm.Cond.code ({ cls := "java/lang/String", name := "compareTo", desc := "(Ljava/lang/String;)I" } : Jvm.MethodName) prog_33_method_71_code (5 : Nat) (Option.some Jvm.ClassFile.FieldType.int)) ∈ lw_all := lw_g (lw_at lw_m2 139 rfl) rfl
theorem q473 : (Jvm.Cond.methodLink "java/lang/String" (335 : Nat) ({ cls := "java/lang/String", name := "coder", desc := "()B" } : Jvm.MethodName)) ∈ lw_all := lw_g (lw_at lw_m2 140 rfl) rfl
theorem q474 : (Jvm.Cond.instanceMethod ({ cls := "java/lang/String", name := "coder", desc := "()B" } : Jvm.MethodName)) ∈ lw_all := lw_g (lw_at lw_m2 141 rfl) rfl
theorem q475 : (Jvm.Cond.selects "java/lang/String" ({ cls := "java/lang/String", name := "coder", desc := "()B" } : Jvm.MethodName) ({ cls := "java/lang/String", name := "coder", desc := "()B" } : Jvm.MethodName)) ∈ lw_all := lw_g (lw_at lw_m2 142 rfl) rfl
theorem q476 : (Jvm.Cond.code ({ cls := "java/lang/String", name := "coder", desc := "()B" } : Jvm.MethodName) prog_33_method_152_code (1 : Nat) (Option.some Jvm.ClassFile.FieldType.byte)) ∈ lw_all := lw_g (lw_at lw_m2 143 rfl) rfl
theorem q477 : (Jvm.Cond.fieldLink "java/lang/String" (38 : Nat) "java/lang/String" "COMPACT_STRINGS" "Z") ∈ lw_all := lw_g (lw_at lw_m2 144 rfl) rfl
theorem q478 : (Jvm.Cond.laysStatic "java/lang/String" "COMPACT_STRINGS" "Z") ∈ lw_tbl := lw_at lw_m2 145 rfl
theorem q479 : (Jvm.Cond.methodLink "java/lang/String" (586 : Nat) ({ cls := "java/lang/StringLatin1", name := "compareTo", desc := "([B[B)I" } : Jvm.MethodName)) ∈ lw_all := lw_g (lw_at lw_m2 146 rfl) rfl
theorem q595 : (Jvm.Cond.methodLink "java/lang/String" (590 : Nat) ({ cls := "java/lang/StringUTF16", name := "compareTo", desc := "([B[B)I" } : Jvm.MethodName)) ∈ lw_all := lw_g (lw_at lw_m3 22 rfl) rfl
theorem q614 : (Jvm.Cond.methodLink "java/lang/String" (591 : Nat) ({ cls := "java/lang/StringLatin1", name := "compareToUTF16", desc := "([B[B)I" } : Jvm.MethodName)) ∈ lw_all := lw_g (lw_at lw_m3 41 rfl) rfl
theorem q625 : (Jvm.Cond.methodLink "java/lang/String" (594 : Nat) ({ cls := "java/lang/StringUTF16", name := "compareToLatin1", desc := "([B[B)I" } : Jvm.MethodName)) ∈ lw_all := lw_g (lw_at lw_m3 52 rfl) rfl
theorem q1183 : (Jvm.Cond.instanceMethod ({ cls := "java/lang/String", name := "indexOf", desc := "(I)I" } : Jvm.MethodName)) ∈ lw_all := lw_g (lw_at lw_m5 130 rfl) rfl
theorem q1184 : (Jvm.Cond.selects "java/lang/String" ({ cls := "java/lang/String", name := "indexOf", desc := "(I)I" } : Jvm.MethodName) ({ cls := "java/lang/String", name := "indexOf", desc := "(I)I" } : Jvm.MethodName)) ∈ lw_all := lw_g (lw_at lw_m5 131 rfl) rfl
theorem q1185 : (Jvm.Cond.code ({ cls := "java/lang/String", name := "indexOf", desc := "(I)I" } : Jvm.MethodName) prog_33_method_79_code (2 : Nat) (Option.some Jvm.ClassFile.FieldType.int)) ∈ lw_all := lw_g (lw_at lw_m5 132 rfl) rfl
theorem q1186 : (Jvm.Cond.methodLink "java/lang/String" (633 : Nat) ({ cls := "java/lang/String", name := "indexOf", desc := "(II)I" } : Jvm.MethodName)) ∈ lw_all := lw_g (lw_at lw_m5 133 rfl) rfl
theorem q1187 : (Jvm.Cond.instanceMethod ({ cls := "java/lang/String", name := "indexOf", desc := "(II)I" } : Jvm.MethodName)) ∈ lw_all := lw_g (lw_at lw_m5 134 rfl) rfl
theorem q1188 : (Jvm.Cond.selects "java/lang/String" ({ cls := "java/lang/String", name := "indexOf", desc := "(II)I" } : Jvm.MethodName) ({ cls := "java/lang/String", name := "indexOf", desc := "(II)I" } : Jvm.MethodName)) ∈ lw_all := lw_g (lw_at lw_m5 135 rfl) rfl
theorem q1189 : (Jvm.Cond.code ({ cls := "java/lang/String", name := "indexOf", desc := "(II)I" } : Jvm.MethodName) prog_33_method_80_code (3 : Nat) (Option.some Jvm.ClassFile.FieldType.int)) ∈ lw_all := lw_g (lw_at lw_m5 136 rfl) rfl
theorem q1190 : (Jvm.Cond.methodLink "java/lang/String" (492 : Nat) ({ cls := "java/lang/String", name := "isLatin1", desc := "()Z" } : Jvm.MethodName)) ∈ lw_all := lw_g (lw_at lw_m5 137 rfl) rfl
theorem q1191 : (Jvm.Cond.instanceMethod ({ cls := "java/lang/String", name := "isLatin1", desc := "()Z" } : Jvm.MethodName)) ∈ lw_all := lw_g (lw_at lw_m5 138 rfl) rfl
theorem q1192 : (Jvm.Cond.selects "java/lang/String" ({ cls := "java/lang/String", name := "isLatin1", desc := "()Z" } : Jvm.MethodName) ({ cls := "java/lang/String", name := "isLatin1", desc := "()Z" } : Jvm.MethodName)) ∈ lw_all := lw_g (lw_at lw_m5 139 rfl) rfl
theorem q1193 : (Jvm.Cond.code ({ cls := "java/lang/String", name := "isLatin1", desc := "()Z" } : Jvm.MethodName) prog_33_method_154_code (1 : Nat) (Option.some Jvm.ClassFile.FieldType.boolean)) ∈ lw_all := lw_g (lw_at lw_m5 140 rfl) rfl
theorem q1194 : (Jvm.Cond.methodLink "java/lang/String" (505 : Nat) ({ cls := "java/lang/String", name := "length", desc := "()I" } : Jvm.MethodName)) ∈ lw_all := lw_g (lw_at lw_m5 141 rfl) rfl
theorem q1195 : (Jvm.Cond.instanceMethod ({ cls := "java/lang/String", name := "length", desc := "()I" } : Jvm.MethodName)) ∈ lw_all := lw_g (lw_at lw_m5 142 rfl) rfl
theorem q1196 : (Jvm.Cond.selects "java/lang/String" ({ cls := "java/lang/String", name := "length", desc := "()I" } : Jvm.MethodName) ({ cls := "java/lang/String", name := "length", desc := "()I" } : Jvm.MethodName)) ∈ lw_all := lw_g (lw_at lw_m5 143 rfl) rfl
theorem q1197 : (Jvm.Cond.code ({ cls := "java/lang/String", name := "length", desc := "()I" } : Jvm.MethodName) prog_33_method_54_code (1 : Nat) (Option.some Jvm.ClassFile.FieldType.int)) ∈ lw_all := lw_g (lw_at lw_m5 144 rfl) rfl
theorem q1198 : (Jvm.Cond.methodLink "java/lang/String" (637 : Nat) ({ cls := "java/lang/StringLatin1", name := "indexOf", desc := "([BIII)I" } : Jvm.MethodName)) ∈ lw_all := lw_g (lw_at lw_m5 145 rfl) rfl
theorem q1210 : (Jvm.Cond.methodLink "java/lang/String" (640 : Nat) ({ cls := "java/lang/StringUTF16", name := "indexOf", desc := "([BIII)I" } : Jvm.MethodName)) ∈ lw_all := lw_g (lw_at lw_m5 157 rfl) rfl
theorem q1222 : (Jvm.Cond.static ({ cls := "java/lang/String", name := "checkBoundsBeginEnd", desc := "(III)V" } : Jvm.MethodName)) ∈ lw_all := lw_g (lw_at lw_m5 169 rfl) rfl
theorem q1223 : (Jvm.Cond.code ({ cls := "java/lang/String", name := "checkBoundsBeginEnd", desc := "(III)V" } : Jvm.MethodName) prog_33_method_158_code (3 : Nat) (Option.none : Option Jvm.ClassFile.FieldType)) ∈ lw_all := lw_g (lw_at lw_m5 170 rfl) rfl
theorem q1224 : (Jvm.Cond.fieldLink "java/lang/String" (1053 : Nat) "jdk/internal/util/Preconditions" "SIOOBE_FORMATTER" "Ljava/util/function/BiFunction;") ∈ lw_all := lw_g (lw_at lw_m5 171 rfl) rfl
theorem q1226 : (Jvm.Cond.methodLink "java/lang/String" (1062 : Nat) ({ cls := "jdk/internal/util/Preconditions", name := "checkFromToIndex", desc := "(IIILjava/util/function/BiFunction;)I" } : Jvm.MethodName)) ∈ lw_all := lw_g (lw_at lw_m5 173 rfl) rfl
theorem q1695 : (Jvm.Cond.selects "java/lang/String" ({ cls := "java/lang/Object", name := "equals", desc := "(Ljava/lang/Object;)Z" } : Jvm.MethodName) ({ cls := "java/lang/String", name := "equals", desc := "(Ljava/lang/Object;)Z" } : Jvm.MethodName)) ∈ lw_all := lw_g (lw_at lw_m7 162 rfl) rfl
theorem q1696 : (Jvm.Cond.instanceMethod ({ cls := "java/lang/String", name := "equals", desc := "(Ljava/lang/Object;)Z" } : Jvm.MethodName)) ∈ lw_all := lw_g (lw_at lw_m7 163 rfl) rfl
theorem q1697 : (Jvm.Cond.code ({ cls := "java/lang/String", name := "equals", desc := "(Ljava/lang/Object;)Z" } : Jvm.MethodName) prog_33_method_66_code (3 : Nat) (Option.some Jvm.ClassFile.FieldType.boolean)) ∈ lw_all := lw_g (lw_at lw_m7 164 rfl) rfl
theorem q1698 : (Jvm.Cond.methodLink "java/lang/String" (541 : Nat) ({ cls := "java/lang/StringLatin1", name := "equals", desc := "([B[B)Z" } : Jvm.MethodName)) ∈ lw_all := lw_g (lw_at lw_m7 165 rfl) rfl
theorem q3142 : (Jvm.Cond.castable "java/lang/String" "java/lang/Object") ∈ lw_tbl := lw_at lw_m13 169 rfl
theorem q3151 : (Jvm.Cond.fieldLink "java/lang/String" (9 : Nat) "java/lang/String" "value" "[B") ∈ lw_all := lw_g (lw_at lw_m13 178 rfl) rfl
theorem q3152 : (Jvm.Cond.fieldLink "java/lang/String" (15 : Nat) "java/lang/String" "coder" "B") ∈ lw_all := lw_g (lw_at lw_m13 179 rfl) rfl

/-! java/lang/StringLatin1 -/
set_option maxRecDepth 100000
def RJ10 : String := "java/lang/StringLatin1"
abbrev cJ10_compareTo : ByteArray := prog_34_method_14_code
def yJ10_compareTo : MethodName := ⟨RJ10, "compareTo", "([B[B)I"⟩
def dkwJ10_compareTo_0 : List UInt8 := [42, 190, 61, 43, 190, 62, 42, 43, 28, 29, 184, 0, 34, 172]
abbrev dktJ10_compareTo_0 : List UInt8 := dkwJ10_compareTo_0 ++ []
theorem dksJ10_compareTo_0 : cJ10_compareTo.data.toList.drop 0 = dktJ10_compareTo_0 := by decide +kernel
theorem dJ10_compareTo_0 : decode cJ10_compareTo 0 = .ok (.aload_n 0, 1) := dk_42 (dk_at dksJ10_compareTo_0 0 rfl rfl)
theorem dJ10_compareTo_1 : decode cJ10_compareTo 1 = .ok (.arraylength, 1) := dk_190 (dk_at dksJ10_compareTo_0 1 rfl rfl)
theorem dJ10_compareTo_2 : decode cJ10_compareTo 2 = .ok (.istore_n 2, 1) := dk_61 (dk_at dksJ10_compareTo_0 2 rfl rfl)
theorem dJ10_compareTo_3 : decode cJ10_compareTo 3 = .ok (.aload_n 1, 1) := dk_43 (dk_at dksJ10_compareTo_0 3 rfl rfl)
theorem dJ10_compareTo_4 : decode cJ10_compareTo 4 = .ok (.arraylength, 1) := dk_190 (dk_at dksJ10_compareTo_0 4 rfl rfl)
theorem dJ10_compareTo_5 : decode cJ10_compareTo 5 = .ok (.istore_n 3, 1) := dk_62 (dk_at dksJ10_compareTo_0 5 rfl rfl)
theorem dJ10_compareTo_6 : decode cJ10_compareTo 6 = .ok (.aload_n 0, 1) := dk_42 (dk_at dksJ10_compareTo_0 6 rfl rfl)
theorem dJ10_compareTo_7 : decode cJ10_compareTo 7 = .ok (.aload_n 1, 1) := dk_43 (dk_at dksJ10_compareTo_0 7 rfl rfl)
theorem dJ10_compareTo_8 : decode cJ10_compareTo 8 = .ok (.iload_n 2, 1) := dk_28 (dk_at dksJ10_compareTo_0 8 rfl rfl)
theorem dJ10_compareTo_9 : decode cJ10_compareTo 9 = .ok (.iload_n 3, 1) := dk_29 (dk_at dksJ10_compareTo_0 9 rfl rfl)
theorem dJ10_compareTo_10 : decode cJ10_compareTo 10 = .ok (.invokestatic 34, 3) := dk_184 0 34 (dk_at dksJ10_compareTo_0 10 rfl rfl)
theorem dJ10_compareTo_13 : decode cJ10_compareTo 13 = .ok (.ireturn, 1) := dk_172 (dk_at dksJ10_compareTo_0 13 rfl rfl)
abbrev cJ10_compareTo_2 : ByteArray := prog_34_method_15_code
def yJ10_compareTo_2 : MethodName := ⟨RJ10, "compareTo", "([B[BII)I"⟩
def dkwJ10_compareTo_2_1 : List UInt8 := [167, 0, 16, 42, 21, 5, 184, 0, 50, 43, 21, 5, 184, 0, 50, 100, 172]
abbrev dktJ10_compareTo_2_1 : List UInt8 := dkwJ10_compareTo_2_1 ++ []
def dkwJ10_compareTo_2_0 : List UInt8 := [28, 29, 184, 0, 38, 54, 4, 42, 43, 21, 4, 184, 0, 44, 54, 5, 21, 5, 156, 0, 9, 28, 29, 100]
abbrev dktJ10_compareTo_2_0 : List UInt8 := dkwJ10_compareTo_2_0 ++ dktJ10_compareTo_2_1
theorem dksJ10_compareTo_2_0 : cJ10_compareTo_2.data.toList.drop 0 = dktJ10_compareTo_2_0 := by decide +kernel
theorem dksJ10_compareTo_2_1 : cJ10_compareTo_2.data.toList.drop 24 = dktJ10_compareTo_2_1 := dk_seg dksJ10_compareTo_2_0 24 rfl rfl
theorem dJ10_compareTo_2_0 : decode cJ10_compareTo_2 0 = .ok (.iload_n 2, 1) := dk_28 (dk_at dksJ10_compareTo_2_0 0 rfl rfl)
theorem dJ10_compareTo_2_1 : decode cJ10_compareTo_2 1 = .ok (.iload_n 3, 1) := dk_29 (dk_at dksJ10_compareTo_2_0 1 rfl rfl)
theorem dJ10_compareTo_2_2 : decode cJ10_compareTo_2 2 = .ok (.invokestatic 38, 3) := dk_184 0 38 (dk_at dksJ10_compareTo_2_0 2 rfl rfl)
theorem dJ10_compareTo_2_5 : decode cJ10_compareTo_2 5 = .ok (.istore 4, 2) := dk_54 4 (dk_at dksJ10_compareTo_2_0 5 rfl rfl)
theorem dJ10_compareTo_2_7 : decode cJ10_compareTo_2 7 = .ok (.aload_n 0, 1) := dk_42 (dk_at dksJ10_compareTo_2_0 7 rfl rfl)
theorem dJ10_compareTo_2_8 : decode cJ10_compareTo_2 8 = .ok (.aload_n 1, 1) := dk_43 (dk_at dksJ10_compareTo_2_0 8 rfl rfl)
theorem dJ10_compareTo_2_9 : decode cJ10_compareTo_2 9 = .ok (.iload 4, 2) := dk_21 4 (dk_at dksJ10_compareTo_2_0 9 rfl rfl)
theorem dJ10_compareTo_2_11 : decode cJ10_compareTo_2 11 = .ok (.invokestatic 44, 3) := dk_184 0 44 (dk_at dksJ10_compareTo_2_0 11 rfl rfl)
theorem dJ10_compareTo_2_14 : decode cJ10_compareTo_2 14 = .ok (.istore 5, 2) := dk_54 5 (dk_at dksJ10_compareTo_2_0 14 rfl rfl)
theorem dJ10_compareTo_2_16 : decode cJ10_compareTo_2 16 = .ok (.iload 5, 2) := dk_21 5 (dk_at dksJ10_compareTo_2_0 16 rfl rfl)
theorem dJ10_compareTo_2_18 : decode cJ10_compareTo_2 18 = .ok (.ifCond .ge 9, 3) := dk_156 0 9 (dk_at dksJ10_compareTo_2_0 18 rfl rfl)
theorem dJ10_compareTo_2_21 : decode cJ10_compareTo_2 21 = .ok (.iload_n 2, 1) := dk_28 (dk_at dksJ10_compareTo_2_0 21 rfl rfl)
theorem dJ10_compareTo_2_22 : decode cJ10_compareTo_2 22 = .ok (.iload_n 3, 1) := dk_29 (dk_at dksJ10_compareTo_2_0 22 rfl rfl)
theorem dJ10_compareTo_2_23 : decode cJ10_compareTo_2 23 = .ok (.isub, 1) := dk_100 (dk_at dksJ10_compareTo_2_0 23 rfl rfl)
theorem dJ10_compareTo_2_24 : decode cJ10_compareTo_2 24 = .ok (.goto 16, 3) := dk_167 0 16 (dk_at dksJ10_compareTo_2_1 0 rfl rfl)
theorem dJ10_compareTo_2_27 : decode cJ10_compareTo_2 27 = .ok (.aload_n 0, 1) := dk_42 (dk_at dksJ10_compareTo_2_1 3 rfl rfl)
theorem dJ10_compareTo_2_28 : decode cJ10_compareTo_2 28 = .ok (.iload 5, 2) := dk_21 5 (dk_at dksJ10_compareTo_2_1 4 rfl rfl)
theorem dJ10_compareTo_2_30 : decode cJ10_compareTo_2 30 = .ok (.invokestatic 50, 3) := dk_184 0 50 (dk_at dksJ10_compareTo_2_1 6 rfl rfl)
theorem dJ10_compareTo_2_33 : decode cJ10_compareTo_2 33 = .ok (.aload_n 1, 1) := dk_43 (dk_at dksJ10_compareTo_2_1 9 rfl rfl)
theorem dJ10_compareTo_2_34 : decode cJ10_compareTo_2 34 = .ok (.iload 5, 2) := dk_21 5 (dk_at dksJ10_compareTo_2_1 10 rfl rfl)
theorem dJ10_compareTo_2_36 : decode cJ10_compareTo_2 36 = .ok (.invokestatic 50, 3) := dk_184 0 50 (dk_at dksJ10_compareTo_2_1 12 rfl rfl)
theorem dJ10_compareTo_2_39 : decode cJ10_compareTo_2 39 = .ok (.isub, 1) := dk_100 (dk_at dksJ10_compareTo_2_1 15 rfl rfl)
theorem dJ10_compareTo_2_40 : decode cJ10_compareTo_2 40 = .ok (.ireturn, 1) := dk_172 (dk_at dksJ10_compareTo_2_1 16 rfl rfl)
abbrev cJ10_getChar : ByteArray := prog_34_method_44_code
def yJ10_getChar : MethodName := ⟨RJ10, "getChar", "([BI)C"⟩
def dkwJ10_getChar_0 : List UInt8 := [42, 27, 51, 17, 0, 255, 126, 146, 172]
abbrev dktJ10_getChar_0 : List UInt8 := dkwJ10_getChar_0 ++ []
theorem dksJ10_getChar_0 : cJ10_getChar.data.toList.drop 0 = dktJ10_getChar_0 := by decide +kernel
theorem dJ10_getChar_0 : decode cJ10_getChar 0 = .ok (.aload_n 0, 1) := dk_42 (dk_at dksJ10_getChar_0 0 rfl rfl)
theorem dJ10_getChar_1 : decode cJ10_getChar 1 = .ok (.iload_n 1, 1) := dk_27 (dk_at dksJ10_getChar_0 1 rfl rfl)
theorem dJ10_getChar_2 : decode cJ10_getChar 2 = .ok (.baload, 1) := dk_51 (dk_at dksJ10_getChar_0 2 rfl rfl)
theorem dJ10_getChar_3 : decode cJ10_getChar 3 = .ok (.sipush 255, 3) := dk_17 0 255 (dk_at dksJ10_getChar_0 3 rfl rfl)
theorem dJ10_getChar_6 : decode cJ10_getChar 6 = .ok (.iand, 1) := dk_126 (dk_at dksJ10_getChar_0 6 rfl rfl)
theorem dJ10_getChar_7 : decode cJ10_getChar 7 = .ok (.i2c, 1) := dk_146 (dk_at dksJ10_getChar_0 7 rfl rfl)
theorem dJ10_getChar_8 : decode cJ10_getChar 8 = .ok (.ireturn, 1) := dk_172 (dk_at dksJ10_getChar_0 8 rfl rfl)
abbrev cJ10_compareToUTF16 : ByteArray := prog_34_method_16_code
def yJ10_compareToUTF16 : MethodName := ⟨RJ10, "compareToUTF16", "([B[B)I"⟩
def dkwJ10_compareToUTF16_0 : List UInt8 := [42, 184, 0, 54, 61, 43, 184, 0, 58, 62, 42, 43, 28, 29, 184, 0, 59, 172]
abbrev dktJ10_compareToUTF16_0 : List UInt8 := dkwJ10_compareToUTF16_0 ++ []
theorem dksJ10_compareToUTF16_0 : cJ10_compareToUTF16.data.toList.drop 0 = dktJ10_compareToUTF16_0 := by decide +kernel
theorem dJ10_compareToUTF16_0 : decode cJ10_compareToUTF16 0 = .ok (.aload_n 0, 1) := dk_42 (dk_at dksJ10_compareToUTF16_0 0 rfl rfl)
theorem dJ10_compareToUTF16_1 : decode cJ10_compareToUTF16 1 = .ok (.invokestatic 54, 3) := dk_184 0 54 (dk_at dksJ10_compareToUTF16_0 1 rfl rfl)
theorem dJ10_compareToUTF16_4 : decode cJ10_compareToUTF16 4 = .ok (.istore_n 2, 1) := dk_61 (dk_at dksJ10_compareToUTF16_0 4 rfl rfl)
theorem dJ10_compareToUTF16_5 : decode cJ10_compareToUTF16 5 = .ok (.aload_n 1, 1) := dk_43 (dk_at dksJ10_compareToUTF16_0 5 rfl rfl)
theorem dJ10_compareToUTF16_6 : decode cJ10_compareToUTF16 6 = .ok (.invokestatic 58, 3) := dk_184 0 58 (dk_at dksJ10_compareToUTF16_0 6 rfl rfl)
theorem dJ10_compareToUTF16_9 : decode cJ10_compareToUTF16 9 = .ok (.istore_n 3, 1) := dk_62 (dk_at dksJ10_compareToUTF16_0 9 rfl rfl)
theorem dJ10_compareToUTF16_10 : decode cJ10_compareToUTF16 10 = .ok (.aload_n 0, 1) := dk_42 (dk_at dksJ10_compareToUTF16_0 10 rfl rfl)
theorem dJ10_compareToUTF16_11 : decode cJ10_compareToUTF16 11 = .ok (.aload_n 1, 1) := dk_43 (dk_at dksJ10_compareToUTF16_0 11 rfl rfl)
theorem dJ10_compareToUTF16_12 : decode cJ10_compareToUTF16 12 = .ok (.iload_n 2, 1) := dk_28 (dk_at dksJ10_compareToUTF16_0 12 rfl rfl)
theorem dJ10_compareToUTF16_13 : decode cJ10_compareToUTF16 13 = .ok (.iload_n 3, 1) := dk_29 (dk_at dksJ10_compareToUTF16_0 13 rfl rfl)
theorem dJ10_compareToUTF16_14 : decode cJ10_compareToUTF16 14 = .ok (.invokestatic 59, 3) := dk_184 0 59 (dk_at dksJ10_compareToUTF16_0 14 rfl rfl)
theorem dJ10_compareToUTF16_17 : decode cJ10_compareToUTF16 17 = .ok (.ireturn, 1) := dk_172 (dk_at dksJ10_compareToUTF16_0 17 rfl rfl)
abbrev cJ10_length : ByteArray := prog_34_method_5_code
def yJ10_length : MethodName := ⟨RJ10, "length", "([B)I"⟩
theorem dJ10_length_0 : decode cJ10_length 0 = .ok (.aload_n 0, 1) := by decide +kernel
theorem dJ10_length_1 : decode cJ10_length 1 = .ok (.arraylength, 1) := by decide +kernel
theorem dJ10_length_2 : decode cJ10_length 2 = .ok (.ireturn, 1) := by decide +kernel
abbrev cJ10_compareToUTF16Values : ByteArray := prog_34_method_18_code
def yJ10_compareToUTF16Values : MethodName := ⟨RJ10, "compareToUTF16Values", "([B[BII)I"⟩
def dkwJ10_compareToUTF16Values_2 : List UInt8 := [132, 5, 1, 167, 255, 217, 28, 29, 100, 172]
abbrev dktJ10_compareToUTF16Values_2 : List UInt8 := dkwJ10_compareToUTF16Values_2 ++ []
def dkwJ10_compareToUTF16Values_1 : List UInt8 := [54, 6, 43, 21, 5, 184, 0, 65, 54, 7, 21, 6, 21, 7, 159, 0, 9, 21, 6, 21, 7, 100, 172]
abbrev dktJ10_compareToUTF16Values_1 : List UInt8 := dkwJ10_compareToUTF16Values_1 ++ dktJ10_compareToUTF16Values_2
def dkwJ10_compareToUTF16Values_0 : List UInt8 := [28, 29, 184, 0, 38, 54, 4, 3, 54, 5, 21, 5, 21, 4, 162, 0, 38, 42, 21, 5, 184, 0, 50]
abbrev dktJ10_compareToUTF16Values_0 : List UInt8 := dkwJ10_compareToUTF16Values_0 ++ dktJ10_compareToUTF16Values_1
theorem dksJ10_compareToUTF16Values_0 : cJ10_compareToUTF16Values.data.toList.drop 0 = dktJ10_compareToUTF16Values_0 := by decide +kernel
theorem dksJ10_compareToUTF16Values_1 : cJ10_compareToUTF16Values.data.toList.drop 23 = dktJ10_compareToUTF16Values_1 := dk_seg dksJ10_compareToUTF16Values_0 23 rfl rfl
theorem dksJ10_compareToUTF16Values_2 : cJ10_compareToUTF16Values.data.toList.drop 46 = dktJ10_compareToUTF16Values_2 := dk_seg dksJ10_compareToUTF16Values_1 23 rfl rfl
theorem dJ10_compareToUTF16Values_0 : decode cJ10_compareToUTF16Values 0 = .ok (.iload_n 2, 1) := dk_28 (dk_at dksJ10_compareToUTF16Values_0 0 rfl rfl)
theorem dJ10_compareToUTF16Values_1 : decode cJ10_compareToUTF16Values 1 = .ok (.iload_n 3, 1) := dk_29 (dk_at dksJ10_compareToUTF16Values_0 1 rfl rfl)
theorem dJ10_compareToUTF16Values_2 : decode cJ10_compareToUTF16Values 2 = .ok (.invokestatic 38, 3) := dk_184 0 38 (dk_at dksJ10_compareToUTF16Values_0 2 rfl rfl)
theorem dJ10_compareToUTF16Values_5 : decode cJ10_compareToUTF16Values 5 = .ok (.istore 4, 2) := dk_54 4 (dk_at dksJ10_compareToUTF16Values_0 5 rfl rfl)
theorem dJ10_compareToUTF16Values_7 : decode cJ10_compareToUTF16Values 7 = .ok (.iconst 0, 1) := dk_3 (dk_at dksJ10_compareToUTF16Values_0 7 rfl rfl)
theorem dJ10_compareToUTF16Values_8 : decode cJ10_compareToUTF16Values 8 = .ok (.istore 5, 2) := dk_54 5 (dk_at dksJ10_compareToUTF16Values_0 8 rfl rfl)
theorem dJ10_compareToUTF16Values_10 : decode cJ10_compareToUTF16Values 10 = .ok (.iload 5, 2) := dk_21 5 (dk_at dksJ10_compareToUTF16Values_0 10 rfl rfl)
theorem dJ10_compareToUTF16Values_12 : decode cJ10_compareToUTF16Values 12 = .ok (.iload 4, 2) := dk_21 4 (dk_at dksJ10_compareToUTF16Values_0 12 rfl rfl)
theorem dJ10_compareToUTF16Values_14 : decode cJ10_compareToUTF16Values 14 = .ok (.if_icmp .ge 38, 3) := dk_162 0 38 (dk_at dksJ10_compareToUTF16Values_0 14 rfl rfl)
theorem dJ10_compareToUTF16Values_17 : decode cJ10_compareToUTF16Values 17 = .ok (.aload_n 0, 1) := dk_42 (dk_at dksJ10_compareToUTF16Values_0 17 rfl rfl)
theorem dJ10_compareToUTF16Values_18 : decode cJ10_compareToUTF16Values 18 = .ok (.iload 5, 2) := dk_21 5 (dk_at dksJ10_compareToUTF16Values_0 18 rfl rfl)
theorem dJ10_compareToUTF16Values_20 : decode cJ10_compareToUTF16Values 20 = .ok (.invokestatic 50, 3) := dk_184 0 50 (dk_at dksJ10_compareToUTF16Values_0 20 rfl rfl)
theorem dJ10_compareToUTF16Values_23 : decode cJ10_compareToUTF16Values 23 = .ok (.istore 6, 2) := dk_54 6 (dk_at dksJ10_compareToUTF16Values_1 0 rfl rfl)
theorem dJ10_compareToUTF16Values_25 : decode cJ10_compareToUTF16Values 25 = .ok (.aload_n 1, 1) := dk_43 (dk_at dksJ10_compareToUTF16Values_1 2 rfl rfl)
theorem dJ10_compareToUTF16Values_26 : decode cJ10_compareToUTF16Values 26 = .ok (.iload 5, 2) := dk_21 5 (dk_at dksJ10_compareToUTF16Values_1 3 rfl rfl)
theorem dJ10_compareToUTF16Values_28 : decode cJ10_compareToUTF16Values 28 = .ok (.invokestatic 65, 3) := dk_184 0 65 (dk_at dksJ10_compareToUTF16Values_1 5 rfl rfl)
theorem dJ10_compareToUTF16Values_31 : decode cJ10_compareToUTF16Values 31 = .ok (.istore 7, 2) := dk_54 7 (dk_at dksJ10_compareToUTF16Values_1 8 rfl rfl)
theorem dJ10_compareToUTF16Values_33 : decode cJ10_compareToUTF16Values 33 = .ok (.iload 6, 2) := dk_21 6 (dk_at dksJ10_compareToUTF16Values_1 10 rfl rfl)
theorem dJ10_compareToUTF16Values_35 : decode cJ10_compareToUTF16Values 35 = .ok (.iload 7, 2) := dk_21 7 (dk_at dksJ10_compareToUTF16Values_1 12 rfl rfl)
theorem dJ10_compareToUTF16Values_37 : decode cJ10_compareToUTF16Values 37 = .ok (.if_icmp .eq 9, 3) := dk_159 0 9 (dk_at dksJ10_compareToUTF16Values_1 14 rfl rfl)
theorem dJ10_compareToUTF16Values_40 : decode cJ10_compareToUTF16Values 40 = .ok (.iload 6, 2) := dk_21 6 (dk_at dksJ10_compareToUTF16Values_1 17 rfl rfl)
theorem dJ10_compareToUTF16Values_42 : decode cJ10_compareToUTF16Values 42 = .ok (.iload 7, 2) := dk_21 7 (dk_at dksJ10_compareToUTF16Values_1 19 rfl rfl)
theorem dJ10_compareToUTF16Values_44 : decode cJ10_compareToUTF16Values 44 = .ok (.isub, 1) := dk_100 (dk_at dksJ10_compareToUTF16Values_1 21 rfl rfl)
theorem dJ10_compareToUTF16Values_45 : decode cJ10_compareToUTF16Values 45 = .ok (.ireturn, 1) := dk_172 (dk_at dksJ10_compareToUTF16Values_1 22 rfl rfl)
theorem dJ10_compareToUTF16Values_46 : decode cJ10_compareToUTF16Values 46 = .ok (.iinc 5 1, 3) := dk_132 5 1 (dk_at dksJ10_compareToUTF16Values_2 0 rfl rfl)
theorem dJ10_compareToUTF16Values_49 : decode cJ10_compareToUTF16Values 49 = .ok (.goto (-39), 3) := dk_167 255 217 (dk_at dksJ10_compareToUTF16Values_2 3 rfl rfl)
theorem dJ10_compareToUTF16Values_52 : decode cJ10_compareToUTF16Values 52 = .ok (.iload_n 2, 1) := dk_28 (dk_at dksJ10_compareToUTF16Values_2 6 rfl rfl)
theorem dJ10_compareToUTF16Values_53 : decode cJ10_compareToUTF16Values 53 = .ok (.iload_n 3, 1) := dk_29 (dk_at dksJ10_compareToUTF16Values_2 7 rfl rfl)
theorem dJ10_compareToUTF16Values_54 : decode cJ10_compareToUTF16Values 54 = .ok (.isub, 1) := dk_100 (dk_at dksJ10_compareToUTF16Values_2 8 rfl rfl)
theorem dJ10_compareToUTF16Values_55 : decode cJ10_compareToUTF16Values 55 = .ok (.ireturn, 1) := dk_172 (dk_at dksJ10_compareToUTF16Values_2 9 rfl rfl)
abbrev cJ10_indexOf : ByteArray := prog_34_method_22_code
def yJ10_indexOf : MethodName := ⟨RJ10, "indexOf", "([BIII)I"⟩
def dkwJ10_indexOf_1 : List UInt8 := [161, 0, 5, 2, 172, 42, 27, 28, 29, 184, 0, 95, 172]
abbrev dktJ10_indexOf_1 : List UInt8 := dkwJ10_indexOf_1 ++ []
def dkwJ10_indexOf_0 : List UInt8 := [27, 184, 0, 88, 154, 0, 5, 2, 172, 28, 3, 184, 0, 92, 61, 29, 42, 190, 184, 0, 38, 62, 28, 29]
abbrev dktJ10_indexOf_0 : List UInt8 := dkwJ10_indexOf_0 ++ dktJ10_indexOf_1
theorem dksJ10_indexOf_0 : cJ10_indexOf.data.toList.drop 0 = dktJ10_indexOf_0 := by decide +kernel
theorem dksJ10_indexOf_1 : cJ10_indexOf.data.toList.drop 24 = dktJ10_indexOf_1 := dk_seg dksJ10_indexOf_0 24 rfl rfl
theorem dJ10_indexOf_0 : decode cJ10_indexOf 0 = .ok (.iload_n 1, 1) := dk_27 (dk_at dksJ10_indexOf_0 0 rfl rfl)
theorem dJ10_indexOf_1 : decode cJ10_indexOf 1 = .ok (.invokestatic 88, 3) := dk_184 0 88 (dk_at dksJ10_indexOf_0 1 rfl rfl)
theorem dJ10_indexOf_4 : decode cJ10_indexOf 4 = .ok (.ifCond .ne 5, 3) := dk_154 0 5 (dk_at dksJ10_indexOf_0 4 rfl rfl)
theorem dJ10_indexOf_7 : decode cJ10_indexOf 7 = .ok (.iconst (-1), 1) := dk_2 (dk_at dksJ10_indexOf_0 7 rfl rfl)
theorem dJ10_indexOf_8 : decode cJ10_indexOf 8 = .ok (.ireturn, 1) := dk_172 (dk_at dksJ10_indexOf_0 8 rfl rfl)
theorem dJ10_indexOf_9 : decode cJ10_indexOf 9 = .ok (.iload_n 2, 1) := dk_28 (dk_at dksJ10_indexOf_0 9 rfl rfl)
theorem dJ10_indexOf_10 : decode cJ10_indexOf 10 = .ok (.iconst 0, 1) := dk_3 (dk_at dksJ10_indexOf_0 10 rfl rfl)
theorem dJ10_indexOf_11 : decode cJ10_indexOf 11 = .ok (.invokestatic 92, 3) := dk_184 0 92 (dk_at dksJ10_indexOf_0 11 rfl rfl)
theorem dJ10_indexOf_14 : decode cJ10_indexOf 14 = .ok (.istore_n 2, 1) := dk_61 (dk_at dksJ10_indexOf_0 14 rfl rfl)
theorem dJ10_indexOf_15 : decode cJ10_indexOf 15 = .ok (.iload_n 3, 1) := dk_29 (dk_at dksJ10_indexOf_0 15 rfl rfl)
theorem dJ10_indexOf_16 : decode cJ10_indexOf 16 = .ok (.aload_n 0, 1) := dk_42 (dk_at dksJ10_indexOf_0 16 rfl rfl)
theorem dJ10_indexOf_17 : decode cJ10_indexOf 17 = .ok (.arraylength, 1) := dk_190 (dk_at dksJ10_indexOf_0 17 rfl rfl)
theorem dJ10_indexOf_18 : decode cJ10_indexOf 18 = .ok (.invokestatic 38, 3) := dk_184 0 38 (dk_at dksJ10_indexOf_0 18 rfl rfl)
theorem dJ10_indexOf_21 : decode cJ10_indexOf 21 = .ok (.istore_n 3, 1) := dk_62 (dk_at dksJ10_indexOf_0 21 rfl rfl)
theorem dJ10_indexOf_22 : decode cJ10_indexOf 22 = .ok (.iload_n 2, 1) := dk_28 (dk_at dksJ10_indexOf_0 22 rfl rfl)
theorem dJ10_indexOf_23 : decode cJ10_indexOf 23 = .ok (.iload_n 3, 1) := dk_29 (dk_at dksJ10_indexOf_0 23 rfl rfl)
theorem dJ10_indexOf_24 : decode cJ10_indexOf 24 = .ok (.if_icmp .lt 5, 3) := dk_161 0 5 (dk_at dksJ10_indexOf_1 0 rfl rfl)
theorem dJ10_indexOf_27 : decode cJ10_indexOf 27 = .ok (.iconst (-1), 1) := dk_2 (dk_at dksJ10_indexOf_1 3 rfl rfl)
theorem dJ10_indexOf_28 : decode cJ10_indexOf 28 = .ok (.ireturn, 1) := dk_172 (dk_at dksJ10_indexOf_1 4 rfl rfl)
theorem dJ10_indexOf_29 : decode cJ10_indexOf 29 = .ok (.aload_n 0, 1) := dk_42 (dk_at dksJ10_indexOf_1 5 rfl rfl)
theorem dJ10_indexOf_30 : decode cJ10_indexOf 30 = .ok (.iload_n 1, 1) := dk_27 (dk_at dksJ10_indexOf_1 6 rfl rfl)
theorem dJ10_indexOf_31 : decode cJ10_indexOf 31 = .ok (.iload_n 2, 1) := dk_28 (dk_at dksJ10_indexOf_1 7 rfl rfl)
theorem dJ10_indexOf_32 : decode cJ10_indexOf 32 = .ok (.iload_n 3, 1) := dk_29 (dk_at dksJ10_indexOf_1 8 rfl rfl)
theorem dJ10_indexOf_33 : decode cJ10_indexOf 33 = .ok (.invokestatic 95, 3) := dk_184 0 95 (dk_at dksJ10_indexOf_1 9 rfl rfl)
theorem dJ10_indexOf_36 : decode cJ10_indexOf 36 = .ok (.ireturn, 1) := dk_172 (dk_at dksJ10_indexOf_1 12 rfl rfl)
abbrev cJ10_canEncode : ByteArray := prog_34_method_4_code
def yJ10_canEncode : MethodName := ⟨RJ10, "canEncode", "(I)Z"⟩
def dkwJ10_canEncode_0 : List UInt8 := [26, 155, 0, 14, 26, 17, 0, 255, 163, 0, 7, 4, 167, 0, 4, 3, 172]
abbrev dktJ10_canEncode_0 : List UInt8 := dkwJ10_canEncode_0 ++ []
theorem dksJ10_canEncode_0 : cJ10_canEncode.data.toList.drop 0 = dktJ10_canEncode_0 := by decide +kernel
theorem dJ10_canEncode_0 : decode cJ10_canEncode 0 = .ok (.iload_n 0, 1) := dk_26 (dk_at dksJ10_canEncode_0 0 rfl rfl)
theorem dJ10_canEncode_1 : decode cJ10_canEncode 1 = .ok (.ifCond .lt 14, 3) := dk_155 0 14 (dk_at dksJ10_canEncode_0 1 rfl rfl)
theorem dJ10_canEncode_4 : decode cJ10_canEncode 4 = .ok (.iload_n 0, 1) := dk_26 (dk_at dksJ10_canEncode_0 4 rfl rfl)
theorem dJ10_canEncode_5 : decode cJ10_canEncode 5 = .ok (.sipush 255, 3) := dk_17 0 255 (dk_at dksJ10_canEncode_0 5 rfl rfl)
theorem dJ10_canEncode_8 : decode cJ10_canEncode 8 = .ok (.if_icmp .gt 7, 3) := dk_163 0 7 (dk_at dksJ10_canEncode_0 8 rfl rfl)
theorem dJ10_canEncode_11 : decode cJ10_canEncode 11 = .ok (.iconst 1, 1) := dk_4 (dk_at dksJ10_canEncode_0 11 rfl rfl)
theorem dJ10_canEncode_12 : decode cJ10_canEncode 12 = .ok (.goto 4, 3) := dk_167 0 4 (dk_at dksJ10_canEncode_0 12 rfl rfl)
theorem dJ10_canEncode_15 : decode cJ10_canEncode 15 = .ok (.iconst 0, 1) := dk_3 (dk_at dksJ10_canEncode_0 15 rfl rfl)
theorem dJ10_canEncode_16 : decode cJ10_canEncode 16 = .ok (.ireturn, 1) := dk_172 (dk_at dksJ10_canEncode_0 16 rfl rfl)
abbrev cJ10_indexOfChar : ByteArray := prog_34_method_23_code
def yJ10_indexOfChar : MethodName := ⟨RJ10, "indexOfChar", "([BIII)I"⟩
def dkwJ10_indexOfChar_1 : List UInt8 := [172, 132, 5, 1, 167, 255, 235, 2, 172]
abbrev dktJ10_indexOfChar_1 : List UInt8 := dkwJ10_indexOfChar_1 ++ []
def dkwJ10_indexOfChar_0 : List UInt8 := [27, 145, 54, 4, 28, 54, 5, 21, 5, 29, 162, 0, 21, 42, 21, 5, 51, 21, 4, 160, 0, 6, 21, 5]
abbrev dktJ10_indexOfChar_0 : List UInt8 := dkwJ10_indexOfChar_0 ++ dktJ10_indexOfChar_1
theorem dksJ10_indexOfChar_0 : cJ10_indexOfChar.data.toList.drop 0 = dktJ10_indexOfChar_0 := by decide +kernel
theorem dksJ10_indexOfChar_1 : cJ10_indexOfChar.data.toList.drop 24 = dktJ10_indexOfChar_1 := dk_seg dksJ10_indexOfChar_0 24 rfl rfl
theorem dJ10_indexOfChar_0 : decode cJ10_indexOfChar 0 = .ok (.iload_n 1, 1) := dk_27 (dk_at dksJ10_indexOfChar_0 0 rfl rfl)
theorem dJ10_indexOfChar_1 : decode cJ10_indexOfChar 1 = .ok (.i2b, 1) := dk_145 (dk_at dksJ10_indexOfChar_0 1 rfl rfl)
theorem dJ10_indexOfChar_2 : decode cJ10_indexOfChar 2 = .ok (.istore 4, 2) := dk_54 4 (dk_at dksJ10_indexOfChar_0 2 rfl rfl)
theorem dJ10_indexOfChar_4 : decode cJ10_indexOfChar 4 = .ok (.iload_n 2, 1) := dk_28 (dk_at dksJ10_indexOfChar_0 4 rfl rfl)
theorem dJ10_indexOfChar_5 : decode cJ10_indexOfChar 5 = .ok (.istore 5, 2) := dk_54 5 (dk_at dksJ10_indexOfChar_0 5 rfl rfl)
theorem dJ10_indexOfChar_7 : decode cJ10_indexOfChar 7 = .ok (.iload 5, 2) := dk_21 5 (dk_at dksJ10_indexOfChar_0 7 rfl rfl)
theorem dJ10_indexOfChar_9 : decode cJ10_indexOfChar 9 = .ok (.iload_n 3, 1) := dk_29 (dk_at dksJ10_indexOfChar_0 9 rfl rfl)
theorem dJ10_indexOfChar_10 : decode cJ10_indexOfChar 10 = .ok (.if_icmp .ge 21, 3) := dk_162 0 21 (dk_at dksJ10_indexOfChar_0 10 rfl rfl)
theorem dJ10_indexOfChar_13 : decode cJ10_indexOfChar 13 = .ok (.aload_n 0, 1) := dk_42 (dk_at dksJ10_indexOfChar_0 13 rfl rfl)
theorem dJ10_indexOfChar_14 : decode cJ10_indexOfChar 14 = .ok (.iload 5, 2) := dk_21 5 (dk_at dksJ10_indexOfChar_0 14 rfl rfl)
theorem dJ10_indexOfChar_16 : decode cJ10_indexOfChar 16 = .ok (.baload, 1) := dk_51 (dk_at dksJ10_indexOfChar_0 16 rfl rfl)
theorem dJ10_indexOfChar_17 : decode cJ10_indexOfChar 17 = .ok (.iload 4, 2) := dk_21 4 (dk_at dksJ10_indexOfChar_0 17 rfl rfl)
theorem dJ10_indexOfChar_19 : decode cJ10_indexOfChar 19 = .ok (.if_icmp .ne 6, 3) := dk_160 0 6 (dk_at dksJ10_indexOfChar_0 19 rfl rfl)
theorem dJ10_indexOfChar_22 : decode cJ10_indexOfChar 22 = .ok (.iload 5, 2) := dk_21 5 (dk_at dksJ10_indexOfChar_0 22 rfl rfl)
theorem dJ10_indexOfChar_24 : decode cJ10_indexOfChar 24 = .ok (.ireturn, 1) := dk_172 (dk_at dksJ10_indexOfChar_1 0 rfl rfl)
theorem dJ10_indexOfChar_25 : decode cJ10_indexOfChar 25 = .ok (.iinc 5 1, 3) := dk_132 5 1 (dk_at dksJ10_indexOfChar_1 1 rfl rfl)
theorem dJ10_indexOfChar_28 : decode cJ10_indexOfChar 28 = .ok (.goto (-21), 3) := dk_167 255 235 (dk_at dksJ10_indexOfChar_1 4 rfl rfl)
theorem dJ10_indexOfChar_31 : decode cJ10_indexOfChar 31 = .ok (.iconst (-1), 1) := dk_2 (dk_at dksJ10_indexOfChar_1 7 rfl rfl)
theorem dJ10_indexOfChar_32 : decode cJ10_indexOfChar 32 = .ok (.ireturn, 1) := dk_172 (dk_at dksJ10_indexOfChar_1 8 rfl rfl)
abbrev cJ10_equals : ByteArray := prog_34_method_13_code
def yJ10_equals : MethodName := ⟨RJ10, "equals", "([B[B)Z"⟩
def dkwJ10_equals_1 : List UInt8 := [3, 172, 132, 2, 1, 167, 255, 236, 4, 172, 3, 172]
abbrev dktJ10_equals_1 : List UInt8 := dkwJ10_equals_1 ++ []
def dkwJ10_equals_0 : List UInt8 := [42, 190, 43, 190, 160, 0, 30, 3, 61, 28, 42, 190, 162, 0, 20, 42, 28, 51, 43, 28, 51, 159, 0, 5]
abbrev dktJ10_equals_0 : List UInt8 := dkwJ10_equals_0 ++ dktJ10_equals_1
theorem dksJ10_equals_0 : cJ10_equals.data.toList.drop 0 = dktJ10_equals_0 := by decide +kernel
theorem dksJ10_equals_1 : cJ10_equals.data.toList.drop 24 = dktJ10_equals_1 := dk_seg dksJ10_equals_0 24 rfl rfl
theorem dJ10_equals_0 : decode cJ10_equals 0 = .ok (.aload_n 0, 1) := dk_42 (dk_at dksJ10_equals_0 0 rfl rfl)
theorem dJ10_equals_1 : decode cJ10_equals 1 = .ok (.arraylength, 1) := dk_190 (dk_at dksJ10_equals_0 1 rfl rfl)
theorem dJ10_equals_2 : decode cJ10_equals 2 = .ok (.aload_n 1, 1) := dk_43 (dk_at dksJ10_equals_0 2 rfl rfl)
theorem dJ10_equals_3 : decode cJ10_equals 3 = .ok (.arraylength, 1) := dk_190 (dk_at dksJ10_equals_0 3 rfl rfl)
theorem dJ10_equals_4 : decode cJ10_equals 4 = .ok (.if_icmp .ne 30, 3) := dk_160 0 30 (dk_at dksJ10_equals_0 4 rfl rfl)
theorem dJ10_equals_7 : decode cJ10_equals 7 = .ok (.iconst 0, 1) := dk_3 (dk_at dksJ10_equals_0 7 rfl rfl)
theorem dJ10_equals_8 : decode cJ10_equals 8 = .ok (.istore_n 2, 1) := dk_61 (dk_at dksJ10_equals_0 8 rfl rfl)
theorem dJ10_equals_9 : decode cJ10_equals 9 = .ok (.iload_n 2, 1) := dk_28 (dk_at dksJ10_equals_0 9 rfl rfl)
theorem dJ10_equals_10 : decode cJ10_equals 10 = .ok (.aload_n 0, 1) := dk_42 (dk_at dksJ10_equals_0 10 rfl rfl)
theorem dJ10_equals_11 : decode cJ10_equals 11 = .ok (.arraylength, 1) := dk_190 (dk_at dksJ10_equals_0 11 rfl rfl)
theorem dJ10_equals_12 : decode cJ10_equals 12 = .ok (.if_icmp .ge 20, 3) := dk_162 0 20 (dk_at dksJ10_equals_0 12 rfl rfl)
theorem dJ10_equals_15 : decode cJ10_equals 15 = .ok (.aload_n 0, 1) := dk_42 (dk_at dksJ10_equals_0 15 rfl rfl)
theorem dJ10_equals_16 : decode cJ10_equals 16 = .ok (.iload_n 2, 1) := dk_28 (dk_at dksJ10_equals_0 16 rfl rfl)
theorem dJ10_equals_17 : decode cJ10_equals 17 = .ok (.baload, 1) := dk_51 (dk_at dksJ10_equals_0 17 rfl rfl)
theorem dJ10_equals_18 : decode cJ10_equals 18 = .ok (.aload_n 1, 1) := dk_43 (dk_at dksJ10_equals_0 18 rfl rfl)
theorem dJ10_equals_19 : decode cJ10_equals 19 = .ok (.iload_n 2, 1) := dk_28 (dk_at dksJ10_equals_0 19 rfl rfl)
theorem dJ10_equals_20 : decode cJ10_equals 20 = .ok (.baload, 1) := dk_51 (dk_at dksJ10_equals_0 20 rfl rfl)
theorem dJ10_equals_21 : decode cJ10_equals 21 = .ok (.if_icmp .eq 5, 3) := dk_159 0 5 (dk_at dksJ10_equals_0 21 rfl rfl)
theorem dJ10_equals_24 : decode cJ10_equals 24 = .ok (.iconst 0, 1) := dk_3 (dk_at dksJ10_equals_1 0 rfl rfl)
theorem dJ10_equals_25 : decode cJ10_equals 25 = .ok (.ireturn, 1) := dk_172 (dk_at dksJ10_equals_1 1 rfl rfl)
theorem dJ10_equals_26 : decode cJ10_equals 26 = .ok (.iinc 2 1, 3) := dk_132 2 1 (dk_at dksJ10_equals_1 2 rfl rfl)
theorem dJ10_equals_29 : decode cJ10_equals 29 = .ok (.goto (-20), 3) := dk_167 255 236 (dk_at dksJ10_equals_1 5 rfl rfl)
theorem dJ10_equals_32 : decode cJ10_equals 32 = .ok (.iconst 1, 1) := dk_4 (dk_at dksJ10_equals_1 8 rfl rfl)
theorem dJ10_equals_33 : decode cJ10_equals 33 = .ok (.ireturn, 1) := dk_172 (dk_at dksJ10_equals_1 9 rfl rfl)
theorem dJ10_equals_34 : decode cJ10_equals 34 = .ok (.iconst 0, 1) := dk_3 (dk_at dksJ10_equals_1 10 rfl rfl)
theorem dJ10_equals_35 : decode cJ10_equals 35 = .ok (.ireturn, 1) := dk_172 (dk_at dksJ10_equals_1 11 rfl rfl)
theorem q111 : (Jvm.Cond.initialized "java/lang/StringLatin1") ∈ lw_all := lw_g (lw_at lw_m1 18 rfl) rfl
theorem q480 : (Jvm.Cond.static ({ cls := "java/lang/StringLatin1", name := "compareTo", desc := "([B[B)I" } : Jvm.MethodName)) ∈ lw_all := lw_g (lw_at lw_m2 147 rfl) rfl
theorem q481 : (Jvm.Cond.code ({ cls := "java/lang/StringLatin1", name := "compareTo", desc := "([B[B)I" } : Jvm.MethodName) prog_34_method_14_code (4 : Nat) (Option.some Jvm.ClassFile.FieldType.int)) ∈ lw_all := lw_g (lw_at lw_m2 148 rfl) rfl
theorem q482 : (Jvm.Cond.methodLink "java/lang/StringLatin1" (34 : Nat) ({ cls := "java/lang/StringLatin1", name := "compareTo", desc := "([B[BII)I" } : Jvm.MethodName)) ∈ lw_all := lw_g (lw_at lw_m2 149 rfl) rfl
theorem q483 : (Jvm.Cond.static ({ cls := "java/lang/StringLatin1", name := "compareTo", desc := "([B[BII)I" } : Jvm.MethodName)) ∈ lw_all := lw_g (lw_at lw_m2 150 rfl) rfl
theorem q484 : (Jvm.Cond.code ({ cls := "java/lang/StringLatin1", name := "compareTo", desc := "([B[BII)I" } : Jvm.MethodName) prog_34_method_15_code (6 : Nat) (Option.some Jvm.ClassFile.FieldType.int)) ∈ lw_all := lw_g (lw_at lw_m2 151 rfl) rfl
theorem q485 : (Jvm.Cond.methodLink "java/lang/StringLatin1" (38 : Nat) ({ cls := "java/lang/Math", name := "min", desc := "(II)I" } : Jvm.MethodName)) ∈ lw_all := lw_g (lw_at lw_m2 152 rfl) rfl
theorem q488 : (Jvm.Cond.methodLink "java/lang/StringLatin1" (44 : Nat) ({ cls := "jdk/internal/util/ArraysSupport", name := "mismatch", desc := "([B[BI)I" } : Jvm.MethodName)) ∈ lw_all := lw_g (lw_at lw_m2 155 rfl) rfl
theorem q592 : (Jvm.Cond.methodLink "java/lang/StringLatin1" (50 : Nat) ({ cls := "java/lang/StringLatin1", name := "getChar", desc := "([BI)C" } : Jvm.MethodName)) ∈ lw_all := lw_g (lw_at lw_m3 19 rfl) rfl
theorem q593 : (Jvm.Cond.static ({ cls := "java/lang/StringLatin1", name := "getChar", desc := "([BI)C" } : Jvm.MethodName)) ∈ lw_all := lw_g (lw_at lw_m3 20 rfl) rfl
theorem q594 : (Jvm.Cond.code ({ cls := "java/lang/StringLatin1", name := "getChar", desc := "([BI)C" } : Jvm.MethodName) prog_34_method_44_code (2 : Nat) (Option.some Jvm.ClassFile.FieldType.char)) ∈ lw_all := lw_g (lw_at lw_m3 21 rfl) rfl
theorem q615 : (Jvm.Cond.static ({ cls := "java/lang/StringLatin1", name := "compareToUTF16", desc := "([B[B)I" } : Jvm.MethodName)) ∈ lw_all := lw_g (lw_at lw_m3 42 rfl) rfl
theorem q616 : (Jvm.Cond.code ({ cls := "java/lang/StringLatin1", name := "compareToUTF16", desc := "([B[B)I" } : Jvm.MethodName) prog_34_method_16_code (4 : Nat) (Option.some Jvm.ClassFile.FieldType.int)) ∈ lw_all := lw_g (lw_at lw_m3 43 rfl) rfl
theorem q617 : (Jvm.Cond.methodLink "java/lang/StringLatin1" (54 : Nat) ({ cls := "java/lang/StringLatin1", name := "length", desc := "([B)I" } : Jvm.MethodName)) ∈ lw_all := lw_g (lw_at lw_m3 44 rfl) rfl
theorem q618 : (Jvm.Cond.static ({ cls := "java/lang/StringLatin1", name := "length", desc := "([B)I" } : Jvm.MethodName)) ∈ lw_all := lw_g (lw_at lw_m3 45 rfl) rfl
theorem q619 : (Jvm.Cond.code ({ cls := "java/lang/StringLatin1", name := "length", desc := "([B)I" } : Jvm.MethodName) prog_34_method_5_code (1 : Nat) (Option.some Jvm.ClassFile.FieldType.int)) ∈ lw_all := lw_g (lw_at lw_m3 46 rfl) rfl
theorem q620 : (Jvm.Cond.methodLink "java/lang/StringLatin1" (58 : Nat) ({ cls := "java/lang/StringUTF16", name := "length", desc := "([B)I" } : Jvm.MethodName)) ∈ lw_all := lw_g (lw_at lw_m3 47 rfl) rfl
theorem q621 : (Jvm.Cond.methodLink "java/lang/StringLatin1" (59 : Nat) ({ cls := "java/lang/StringLatin1", name := "compareToUTF16Values", desc := "([B[BII)I" } : Jvm.MethodName)) ∈ lw_all := lw_g (lw_at lw_m3 48 rfl) rfl
theorem q622 : (Jvm.Cond.static ({ cls := "java/lang/StringLatin1", name := "compareToUTF16Values", desc := "([B[BII)I" } : Jvm.MethodName)) ∈ lw_all := lw_g (lw_at lw_m3 49 rfl) rfl
theorem q623 : (Jvm.Cond.code ({ cls := "java/lang/StringLatin1", name := "compareToUTF16Values", desc := "([B[BII)I" } : Jvm.MethodName) prog_34_method_18_code (8 : Nat) (Option.some Jvm.ClassFile.FieldType.int)) ∈ lw_all := lw_g (lw_at lw_m3 50 rfl) rfl
theorem q624 : (Jvm.Cond.methodLink "java/lang/StringLatin1" (65 : Nat) ({ cls := "java/lang/StringUTF16", name := "getChar", desc := "([BI)C" } : Jvm.MethodName)) ∈ lw_all := lw_g (lw_at lw_m3 51 rfl) rfl
theorem q1199 : (Jvm.Cond.static ({ cls := "java/lang/StringLatin1", name := "indexOf", desc := "([BIII)I" } : Jvm.MethodName)) ∈ lw_all := lw_g (lw_at lw_m5 146 rfl) rfl
theorem q1200 : (Jvm.Cond.code ({ cls := "java/lang/StringLatin1", name := "indexOf", desc := "([BIII)I" } : Jvm.MethodName) prog_34_method_22_code (4 : Nat) (Option.some Jvm.ClassFile.FieldType.int)) ∈ lw_all := lw_g (lw_at lw_m5 147 rfl) rfl
theorem q1201 : (Jvm.Cond.methodLink "java/lang/StringLatin1" (88 : Nat) ({ cls := "java/lang/StringLatin1", name := "canEncode", desc := "(I)Z" } : Jvm.MethodName)) ∈ lw_all := lw_g (lw_at lw_m5 148 rfl) rfl
theorem q1202 : (Jvm.Cond.static ({ cls := "java/lang/StringLatin1", name := "canEncode", desc := "(I)Z" } : Jvm.MethodName)) ∈ lw_all := lw_g (lw_at lw_m5 149 rfl) rfl
theorem q1203 : (Jvm.Cond.code ({ cls := "java/lang/StringLatin1", name := "canEncode", desc := "(I)Z" } : Jvm.MethodName) prog_34_method_4_code (1 : Nat) (Option.some Jvm.ClassFile.FieldType.boolean)) ∈ lw_all := lw_g (lw_at lw_m5 150 rfl) rfl
theorem q1204 : (Jvm.Cond.methodLink "java/lang/StringLatin1" (92 : Nat) ({ cls := "java/lang/Math", name := "max", desc := "(II)I" } : Jvm.MethodName)) ∈ lw_all := lw_g (lw_at lw_m5 151 rfl) rfl
theorem q1207 : (Jvm.Cond.methodLink "java/lang/StringLatin1" (95 : Nat) ({ cls := "java/lang/StringLatin1", name := "indexOfChar", desc := "([BIII)I" } : Jvm.MethodName)) ∈ lw_all := lw_g (lw_at lw_m5 154 rfl) rfl
theorem q1208 : (Jvm.Cond.static ({ cls := "java/lang/StringLatin1", name := "indexOfChar", desc := "([BIII)I" } : Jvm.MethodName)) ∈ lw_all := lw_g (lw_at lw_m5 155 rfl) rfl
theorem q1209 : (Jvm.Cond.code ({ cls := "java/lang/StringLatin1", name := "indexOfChar", desc := "([BIII)I" } : Jvm.MethodName) prog_34_method_23_code (6 : Nat) (Option.some Jvm.ClassFile.FieldType.int)) ∈ lw_all := lw_g (lw_at lw_m5 156 rfl) rfl
theorem q1699 : (Jvm.Cond.static ({ cls := "java/lang/StringLatin1", name := "equals", desc := "([B[B)Z" } : Jvm.MethodName)) ∈ lw_all := lw_g (lw_at lw_m7 166 rfl) rfl
theorem q1700 : (Jvm.Cond.code ({ cls := "java/lang/StringLatin1", name := "equals", desc := "([B[B)Z" } : Jvm.MethodName) prog_34_method_13_code (3 : Nat) (Option.some Jvm.ClassFile.FieldType.boolean)) ∈ lw_all := lw_g (lw_at lw_m7 167 rfl) rfl

/-! java/lang/Math -/
set_option maxRecDepth 100000
def RJ11 : String := "java/lang/Math"
abbrev cJ11_min : ByteArray := prog_30_method_69_code
def yJ11_min : MethodName := ⟨RJ11, "min", "(II)I"⟩
def dkwJ11_min_0 : List UInt8 := [26, 27, 163, 0, 7, 26, 167, 0, 4, 27, 172]
abbrev dktJ11_min_0 : List UInt8 := dkwJ11_min_0 ++ []
theorem dksJ11_min_0 : cJ11_min.data.toList.drop 0 = dktJ11_min_0 := by decide +kernel
theorem dJ11_min_0 : decode cJ11_min 0 = .ok (.iload_n 0, 1) := dk_26 (dk_at dksJ11_min_0 0 rfl rfl)
theorem dJ11_min_1 : decode cJ11_min 1 = .ok (.iload_n 1, 1) := dk_27 (dk_at dksJ11_min_0 1 rfl rfl)
theorem dJ11_min_2 : decode cJ11_min 2 = .ok (.if_icmp .gt 7, 3) := dk_163 0 7 (dk_at dksJ11_min_0 2 rfl rfl)
theorem dJ11_min_5 : decode cJ11_min 5 = .ok (.iload_n 0, 1) := dk_26 (dk_at dksJ11_min_0 5 rfl rfl)
theorem dJ11_min_6 : decode cJ11_min 6 = .ok (.goto 4, 3) := dk_167 0 4 (dk_at dksJ11_min_0 6 rfl rfl)
theorem dJ11_min_9 : decode cJ11_min 9 = .ok (.iload_n 1, 1) := dk_27 (dk_at dksJ11_min_0 9 rfl rfl)
theorem dJ11_min_10 : decode cJ11_min 10 = .ok (.ireturn, 1) := dk_172 (dk_at dksJ11_min_0 10 rfl rfl)
abbrev cJ11_max : ByteArray := prog_30_method_65_code
def yJ11_max : MethodName := ⟨RJ11, "max", "(II)I"⟩
def dkwJ11_max_0 : List UInt8 := [26, 27, 161, 0, 7, 26, 167, 0, 4, 27, 172]
abbrev dktJ11_max_0 : List UInt8 := dkwJ11_max_0 ++ []
theorem dksJ11_max_0 : cJ11_max.data.toList.drop 0 = dktJ11_max_0 := by decide +kernel
theorem dJ11_max_0 : decode cJ11_max 0 = .ok (.iload_n 0, 1) := dk_26 (dk_at dksJ11_max_0 0 rfl rfl)
theorem dJ11_max_1 : decode cJ11_max 1 = .ok (.iload_n 1, 1) := dk_27 (dk_at dksJ11_max_0 1 rfl rfl)
theorem dJ11_max_2 : decode cJ11_max 2 = .ok (.if_icmp .lt 7, 3) := dk_161 0 7 (dk_at dksJ11_max_0 2 rfl rfl)
theorem dJ11_max_5 : decode cJ11_max 5 = .ok (.iload_n 0, 1) := dk_26 (dk_at dksJ11_max_0 5 rfl rfl)
theorem dJ11_max_6 : decode cJ11_max 6 = .ok (.goto 4, 3) := dk_167 0 4 (dk_at dksJ11_max_0 6 rfl rfl)
theorem dJ11_max_9 : decode cJ11_max 9 = .ok (.iload_n 1, 1) := dk_27 (dk_at dksJ11_max_0 9 rfl rfl)
theorem dJ11_max_10 : decode cJ11_max 10 = .ok (.ireturn, 1) := dk_172 (dk_at dksJ11_max_0 10 rfl rfl)
theorem q112 : (Jvm.Cond.initialized "java/lang/Math") ∈ lw_all := lw_g (lw_at lw_m1 19 rfl) rfl
theorem q486 : (Jvm.Cond.static ({ cls := "java/lang/Math", name := "min", desc := "(II)I" } : Jvm.MethodName)) ∈ lw_all := lw_g (lw_at lw_m2 153 rfl) rfl
theorem q487 : (Jvm.Cond.code ({ cls := "java/lang/Math", name := "min", desc := "(II)I" } : Jvm.MethodName) prog_30_method_69_code (2 : Nat) (Option.some Jvm.ClassFile.FieldType.int)) ∈ lw_all := lw_g (lw_at lw_m2 154 rfl) rfl
theorem q1205 : (Jvm.Cond.static ({ cls := "java/lang/Math", name := "max", desc := "(II)I" } : Jvm.MethodName)) ∈ lw_all := lw_g (lw_at lw_m5 152 rfl) rfl
theorem q1206 : (Jvm.Cond.code ({ cls := "java/lang/Math", name := "max", desc := "(II)I" } : Jvm.MethodName) prog_30_method_65_code (2 : Nat) (Option.some Jvm.ClassFile.FieldType.int)) ∈ lw_all := lw_g (lw_at lw_m5 153 rfl) rfl

/-! java/util/TreeMap$Entry -/
set_option maxRecDepth 100000
def RJ16 : String := "java/util/TreeMap$Entry"
def TJ16 : u_T := fun k => match k with
  | 0 => ("java/util/TreeMap$Entry", "key", "Ljava/lang/Object;", false)
  | 1 => ("java/util/TreeMap$Entry", "value", "Ljava/lang/Object;", false)
  | 2 => ("java/util/TreeMap$Entry", "left", "Ljava/util/TreeMap$Entry;", false)
  | 3 => ("java/util/TreeMap$Entry", "right", "Ljava/util/TreeMap$Entry;", false)
  | 4 => ("java/util/TreeMap$Entry", "parent", "Ljava/util/TreeMap$Entry;", false)
  | _ => ("java/util/TreeMap$Entry", "color", "Z", false)
def tyJ16 : Nat → FieldType := fun k => match k with
  | 0 => .object "java/lang/Object"
  | 1 => .object "java/lang/Object"
  | 2 => .object "java/util/TreeMap$Entry"
  | 3 => .object "java/util/TreeMap$Entry"
  | 4 => .object "java/util/TreeMap$Entry"
  | _ => .boolean
abbrev wsJ160 : List Cond := u_ws RJ16 TJ16 6
theorem nmJ16 : ∀ a, a < 6 → ∀ b, b < 6 → a ≠ b → (TJ16 a).2.1 ≠ (TJ16 b).2.1 := by decide +kernel
theorem tyJ16_ok : ∀ k, k < 6 → parseFieldDescriptor (TJ16 k).2.2.1 = some (tyJ16 k) := by decide +kernel
abbrev cJ16_init : ByteArray := prog_73_method_1_code
def yJ16_init : MethodName := ⟨RJ16, "<init>", "(Ljava/lang/Object;Ljava/lang/Object;Ljava/util/TreeMap$Entry;)V"⟩
def dkwJ16_init_1 : List UInt8 := [177]
abbrev dktJ16_init_1 : List UInt8 := dkwJ16_init_1 ++ []
def dkwJ16_init_0 : List UInt8 := [42, 183, 0, 3, 42, 4, 181, 0, 9, 42, 43, 181, 0, 15, 42, 44, 181, 0, 19, 42, 45, 181, 0, 22]
abbrev dktJ16_init_0 : List UInt8 := dkwJ16_init_0 ++ dktJ16_init_1
theorem dksJ16_init_0 : cJ16_init.data.toList.drop 0 = dktJ16_init_0 := by decide +kernel
theorem dksJ16_init_1 : cJ16_init.data.toList.drop 24 = dktJ16_init_1 := dk_seg dksJ16_init_0 24 rfl rfl
theorem dJ16_init_0 : decode cJ16_init 0 = .ok (.aload_n 0, 1) := dk_42 (dk_at dksJ16_init_0 0 rfl rfl)
theorem dJ16_init_1 : decode cJ16_init 1 = .ok (.invokespecial 3, 3) := dk_183 0 3 (dk_at dksJ16_init_0 1 rfl rfl)
theorem dJ16_init_4 : decode cJ16_init 4 = .ok (.aload_n 0, 1) := dk_42 (dk_at dksJ16_init_0 4 rfl rfl)
theorem dJ16_init_5 : decode cJ16_init 5 = .ok (.iconst 1, 1) := dk_4 (dk_at dksJ16_init_0 5 rfl rfl)
theorem dJ16_init_6 : decode cJ16_init 6 = .ok (.putfield 9, 3) := dk_181 0 9 (dk_at dksJ16_init_0 6 rfl rfl)
theorem dJ16_init_9 : decode cJ16_init 9 = .ok (.aload_n 0, 1) := dk_42 (dk_at dksJ16_init_0 9 rfl rfl)
theorem dJ16_init_10 : decode cJ16_init 10 = .ok (.aload_n 1, 1) := dk_43 (dk_at dksJ16_init_0 10 rfl rfl)
theorem dJ16_init_11 : decode cJ16_init 11 = .ok (.putfield 15, 3) := dk_181 0 15 (dk_at dksJ16_init_0 11 rfl rfl)
theorem dJ16_init_14 : decode cJ16_init 14 = .ok (.aload_n 0, 1) := dk_42 (dk_at dksJ16_init_0 14 rfl rfl)
theorem dJ16_init_15 : decode cJ16_init 15 = .ok (.aload_n 2, 1) := dk_44 (dk_at dksJ16_init_0 15 rfl rfl)
theorem dJ16_init_16 : decode cJ16_init 16 = .ok (.putfield 19, 3) := dk_181 0 19 (dk_at dksJ16_init_0 16 rfl rfl)
theorem dJ16_init_19 : decode cJ16_init 19 = .ok (.aload_n 0, 1) := dk_42 (dk_at dksJ16_init_0 19 rfl rfl)
theorem dJ16_init_20 : decode cJ16_init 20 = .ok (.aload_n 3, 1) := dk_45 (dk_at dksJ16_init_0 20 rfl rfl)
theorem dJ16_init_21 : decode cJ16_init 21 = .ok (.putfield 22, 3) := dk_181 0 22 (dk_at dksJ16_init_0 21 rfl rfl)
theorem dJ16_init_24 : decode cJ16_init 24 = .ok (.return_, 1) := dk_177 (dk_at dksJ16_init_1 0 rfl rfl)
abbrev cJ16_getKey : ByteArray := prog_73_method_2_code
def yJ16_getKey : MethodName := ⟨RJ16, "getKey", "()Ljava/lang/Object;"⟩
theorem dJ16_getKey_0 : decode cJ16_getKey 0 = .ok (.aload_n 0, 1) := by decide +kernel
theorem dJ16_getKey_1 : decode cJ16_getKey 1 = .ok (.getfield 15, 3) := by decide +kernel
theorem dJ16_getKey_4 : decode cJ16_getKey 4 = .ok (.areturn, 1) := by decide +kernel
abbrev cJ16_getValue : ByteArray := prog_73_method_3_code
def yJ16_getValue : MethodName := ⟨RJ16, "getValue", "()Ljava/lang/Object;"⟩
theorem dJ16_getValue_0 : decode cJ16_getValue 0 = .ok (.aload_n 0, 1) := by decide +kernel
theorem dJ16_getValue_1 : decode cJ16_getValue 1 = .ok (.getfield 19, 3) := by decide +kernel
theorem dJ16_getValue_4 : decode cJ16_getValue 4 = .ok (.areturn, 1) := by decide +kernel
theorem q118 : (Jvm.Cond.initialized "java/util/TreeMap$Entry") ∈ lw_all := lw_g (lw_at lw_m1 25 rfl) rfl
theorem q646 : (Jvm.Cond.instantiable "java/util/TreeMap$Entry" (6 : Nat)) ∈ lw_all := lw_g (lw_at lw_m3 73 rfl) rfl
theorem q648 : (Jvm.Cond.instanceMethod ({ cls := "java/util/TreeMap$Entry", name := "<init>", desc := "(Ljava/lang/Object;Ljava/lang/Object;Ljava/util/TreeMap$Entry;)V" } : Jvm.MethodName)) ∈ lw_all := lw_g (lw_at lw_m3 75 rfl) rfl
theorem q649 : (Jvm.Cond.code ({ cls := "java/util/TreeMap$Entry", name := "<init>", desc := "(Ljava/lang/Object;Ljava/lang/Object;Ljava/util/TreeMap$Entry;)V" } : Jvm.MethodName) prog_73_method_1_code (4 : Nat) (Option.none : Option Jvm.ClassFile.FieldType)) ∈ lw_all := lw_g (lw_at lw_m3 76 rfl) rfl
theorem q650 : (Jvm.Cond.methodLink "java/util/TreeMap$Entry" (3 : Nat) ({ cls := "java/lang/Object", name := "<init>", desc := "()V" } : Jvm.MethodName)) ∈ lw_all := lw_g (lw_at lw_m3 77 rfl) rfl
theorem q651 : (Jvm.Cond.fieldLink "java/util/TreeMap$Entry" (15 : Nat) "java/util/TreeMap$Entry" "key" "Ljava/lang/Object;") ∈ lw_all := lw_g (lw_at lw_m3 78 rfl) rfl
theorem q657 : (Jvm.Cond.fieldLink "java/util/TreeMap$Entry" (19 : Nat) "java/util/TreeMap$Entry" "value" "Ljava/lang/Object;") ∈ lw_all := lw_g (lw_at lw_m3 84 rfl) rfl
theorem q662 : (Jvm.Cond.fieldLink "java/util/TreeMap$Entry" (22 : Nat) "java/util/TreeMap$Entry" "parent" "Ljava/util/TreeMap$Entry;") ∈ lw_all := lw_g (lw_at lw_m3 89 rfl) rfl
theorem q664 : (Jvm.Cond.fieldLink "java/util/TreeMap$Entry" (9 : Nat) "java/util/TreeMap$Entry" "color" "Z") ∈ lw_all := lw_g (lw_at lw_m3 91 rfl) rfl
theorem q666 : (Jvm.Cond.lays "java/util/TreeMap$Entry" "java/util/TreeMap$Entry" "key" "Ljava/lang/Object;") ∈ lw_all := lw_g (lw_at lw_m3 93 rfl) rfl
theorem q667 : (Jvm.Cond.soleField "java/util/TreeMap$Entry" "key") ∈ lw_all := lw_g (lw_at lw_m3 94 rfl) rfl
theorem q668 : (Jvm.Cond.lays "java/util/TreeMap$Entry" "java/util/TreeMap$Entry" "value" "Ljava/lang/Object;") ∈ lw_all := lw_g (lw_at lw_m3 95 rfl) rfl
theorem q669 : (Jvm.Cond.soleField "java/util/TreeMap$Entry" "value") ∈ lw_all := lw_g (lw_at lw_m3 96 rfl) rfl
theorem q670 : (Jvm.Cond.lays "java/util/TreeMap$Entry" "java/util/TreeMap$Entry" "left" "Ljava/util/TreeMap$Entry;") ∈ lw_all := lw_g (lw_at lw_m3 97 rfl) rfl
theorem q671 : (Jvm.Cond.soleField "java/util/TreeMap$Entry" "left") ∈ lw_all := lw_g (lw_at lw_m3 98 rfl) rfl
theorem q672 : (Jvm.Cond.lays "java/util/TreeMap$Entry" "java/util/TreeMap$Entry" "right" "Ljava/util/TreeMap$Entry;") ∈ lw_all := lw_g (lw_at lw_m3 99 rfl) rfl
theorem q673 : (Jvm.Cond.soleField "java/util/TreeMap$Entry" "right") ∈ lw_all := lw_g (lw_at lw_m3 100 rfl) rfl
theorem q674 : (Jvm.Cond.lays "java/util/TreeMap$Entry" "java/util/TreeMap$Entry" "parent" "Ljava/util/TreeMap$Entry;") ∈ lw_all := lw_g (lw_at lw_m3 101 rfl) rfl
theorem q675 : (Jvm.Cond.soleField "java/util/TreeMap$Entry" "parent") ∈ lw_all := lw_g (lw_at lw_m3 102 rfl) rfl
theorem q676 : (Jvm.Cond.lays "java/util/TreeMap$Entry" "java/util/TreeMap$Entry" "color" "Z") ∈ lw_all := lw_g (lw_at lw_m3 103 rfl) rfl
theorem q677 : (Jvm.Cond.soleField "java/util/TreeMap$Entry" "color") ∈ lw_all := lw_g (lw_at lw_m3 104 rfl) rfl
theorem q678 : (Jvm.Cond.superclass "java/util/TreeMap$Entry" "java/lang/Object") ∈ lw_all := lw_g (lw_at lw_m3 105 rfl) rfl
theorem q1010 : (Jvm.Cond.castable "java/util/TreeMap$Entry" "java/util/Map$Entry") ∈ lw_tbl := lw_at lw_m4 197 rfl
theorem q1011 : (Jvm.Cond.selects "java/util/TreeMap$Entry" ({ cls := "java/util/Map$Entry", name := "getKey", desc := "()Ljava/lang/Object;" } : Jvm.MethodName) ({ cls := "java/util/TreeMap$Entry", name := "getKey", desc := "()Ljava/lang/Object;" } : Jvm.MethodName)) ∈ lw_all := lw_g (lw_at lw_m4 198 rfl) rfl
theorem q1012 : (Jvm.Cond.unhidden "java/util/TreeMap$Entry" "getKey" "()Ljava/lang/Object;") ∈ lw_tbl := lw_at lw_m4 199 rfl
theorem q1013 : (Jvm.Cond.instanceMethod ({ cls := "java/util/TreeMap$Entry", name := "getKey", desc := "()Ljava/lang/Object;" } : Jvm.MethodName)) ∈ lw_all := lw_g (lw_at lw_m4 200 rfl) rfl
theorem q1014 : (Jvm.Cond.publicMethod ({ cls := "java/util/TreeMap$Entry", name := "getKey", desc := "()Ljava/lang/Object;" } : Jvm.MethodName)) ∈ lw_tbl := lw_at lw_m4 201 rfl
theorem q1015 : (Jvm.Cond.code ({ cls := "java/util/TreeMap$Entry", name := "getKey", desc := "()Ljava/lang/Object;" } : Jvm.MethodName) prog_73_method_2_code (1 : Nat) (Option.some (Jvm.ClassFile.FieldType.object "java/lang/Object"))) ∈ lw_all := lw_g (lw_at lw_m4 202 rfl) rfl
theorem q1025 : (Jvm.Cond.selects "java/util/TreeMap$Entry" ({ cls := "java/util/Map$Entry", name := "getValue", desc := "()Ljava/lang/Object;" } : Jvm.MethodName) ({ cls := "java/util/TreeMap$Entry", name := "getValue", desc := "()Ljava/lang/Object;" } : Jvm.MethodName)) ∈ lw_all := lw_g (lw_at lw_m4 212 rfl) rfl
theorem q1026 : (Jvm.Cond.unhidden "java/util/TreeMap$Entry" "getValue" "()Ljava/lang/Object;") ∈ lw_tbl := lw_at lw_m4 213 rfl
theorem q1027 : (Jvm.Cond.instanceMethod ({ cls := "java/util/TreeMap$Entry", name := "getValue", desc := "()Ljava/lang/Object;" } : Jvm.MethodName)) ∈ lw_all := lw_g (lw_at lw_m4 214 rfl) rfl
theorem q1028 : (Jvm.Cond.publicMethod ({ cls := "java/util/TreeMap$Entry", name := "getValue", desc := "()Ljava/lang/Object;" } : Jvm.MethodName)) ∈ lw_tbl := lw_at lw_m4 215 rfl
theorem q1029 : (Jvm.Cond.code ({ cls := "java/util/TreeMap$Entry", name := "getValue", desc := "()Ljava/lang/Object;" } : Jvm.MethodName) prog_73_method_3_code (1 : Nat) (Option.some (Jvm.ClassFile.FieldType.object "java/lang/Object"))) ∈ lw_all := lw_g (lw_at lw_m4 216 rfl) rfl
theorem q1452 : (Jvm.Cond.selects "java/util/TreeMap$Entry" ({ cls := "java/lang/Object", name := "getClass", desc := "()Ljava/lang/Class;" } : Jvm.MethodName) ({ cls := "java/lang/Object", name := "getClass", desc := "()Ljava/lang/Class;" } : Jvm.MethodName)) ∈ lw_all := lw_g (lw_at lw_m6 159 rfl) rfl
theorem q3116 : (Jvm.Cond.castable "java/util/TreeMap$Entry" "java/lang/Object") ∈ lw_tbl := lw_at lw_m13 143 rfl
theorem in_J16 : ∀ w ∈ wsJ160, w ∈ lw_all := lw_in wsJ160 [666, 668, 670, 672, 674, 676] (by decide +kernel) (by decide +kernel)

/-! java/util/Objects -/
set_option maxRecDepth 100000
def RJ17 : String := "java/util/Objects"
abbrev cJ17_requireNonNull : ByteArray := prog_58_method_10_code
def yJ17_requireNonNull : MethodName := ⟨RJ17, "requireNonNull", "(Ljava/lang/Object;)Ljava/lang/Object;"⟩
def dkwJ17_requireNonNull_0 : List UInt8 := [42, 199, 0, 11, 187, 0, 84, 89, 183, 0, 86, 191, 42, 176]
abbrev dktJ17_requireNonNull_0 : List UInt8 := dkwJ17_requireNonNull_0 ++ []
theorem dksJ17_requireNonNull_0 : cJ17_requireNonNull.data.toList.drop 0 = dktJ17_requireNonNull_0 := by decide +kernel
theorem dJ17_requireNonNull_0 : decode cJ17_requireNonNull 0 = .ok (.aload_n 0, 1) := dk_42 (dk_at dksJ17_requireNonNull_0 0 rfl rfl)
theorem dJ17_requireNonNull_1 : decode cJ17_requireNonNull 1 = .ok (.ifnonnull 11, 3) := dk_199 0 11 (dk_at dksJ17_requireNonNull_0 1 rfl rfl)
theorem dJ17_requireNonNull_4 : decode cJ17_requireNonNull 4 = .ok (.new 84, 3) := dk_187 0 84 (dk_at dksJ17_requireNonNull_0 4 rfl rfl)
theorem dJ17_requireNonNull_7 : decode cJ17_requireNonNull 7 = .ok (.dup, 1) := dk_89 (dk_at dksJ17_requireNonNull_0 7 rfl rfl)
theorem dJ17_requireNonNull_8 : decode cJ17_requireNonNull 8 = .ok (.invokespecial 86, 3) := dk_183 0 86 (dk_at dksJ17_requireNonNull_0 8 rfl rfl)
theorem dJ17_requireNonNull_11 : decode cJ17_requireNonNull 11 = .ok (.athrow, 1) := dk_191 (dk_at dksJ17_requireNonNull_0 11 rfl rfl)
theorem dJ17_requireNonNull_12 : decode cJ17_requireNonNull 12 = .ok (.aload_n 0, 1) := dk_42 (dk_at dksJ17_requireNonNull_0 12 rfl rfl)
theorem dJ17_requireNonNull_13 : decode cJ17_requireNonNull 13 = .ok (.areturn, 1) := dk_176 (dk_at dksJ17_requireNonNull_0 13 rfl rfl)
abbrev cJ17_equals : ByteArray := prog_58_method_2_code
def yJ17_equals : MethodName := ⟨RJ17, "equals", "(Ljava/lang/Object;Ljava/lang/Object;)Z"⟩
def dkwJ17_equals_0 : List UInt8 := [42, 43, 165, 0, 15, 42, 198, 0, 15, 42, 43, 182, 0, 14, 153, 0, 7, 4, 167, 0, 4, 3, 172]
abbrev dktJ17_equals_0 : List UInt8 := dkwJ17_equals_0 ++ []
theorem dksJ17_equals_0 : cJ17_equals.data.toList.drop 0 = dktJ17_equals_0 := by decide +kernel
theorem dJ17_equals_0 : decode cJ17_equals 0 = .ok (.aload_n 0, 1) := dk_42 (dk_at dksJ17_equals_0 0 rfl rfl)
theorem dJ17_equals_1 : decode cJ17_equals 1 = .ok (.aload_n 1, 1) := dk_43 (dk_at dksJ17_equals_0 1 rfl rfl)
theorem dJ17_equals_2 : decode cJ17_equals 2 = .ok (.if_acmp .eq 15, 3) := dk_165 0 15 (dk_at dksJ17_equals_0 2 rfl rfl)
theorem dJ17_equals_5 : decode cJ17_equals 5 = .ok (.aload_n 0, 1) := dk_42 (dk_at dksJ17_equals_0 5 rfl rfl)
theorem dJ17_equals_6 : decode cJ17_equals 6 = .ok (.ifnull 15, 3) := dk_198 0 15 (dk_at dksJ17_equals_0 6 rfl rfl)
theorem dJ17_equals_9 : decode cJ17_equals 9 = .ok (.aload_n 0, 1) := dk_42 (dk_at dksJ17_equals_0 9 rfl rfl)
theorem dJ17_equals_10 : decode cJ17_equals 10 = .ok (.aload_n 1, 1) := dk_43 (dk_at dksJ17_equals_0 10 rfl rfl)
theorem dJ17_equals_11 : decode cJ17_equals 11 = .ok (.invokevirtual 14, 3) := dk_182 0 14 (dk_at dksJ17_equals_0 11 rfl rfl)
theorem dJ17_equals_14 : decode cJ17_equals 14 = .ok (.ifCond .eq 7, 3) := dk_153 0 7 (dk_at dksJ17_equals_0 14 rfl rfl)
theorem dJ17_equals_17 : decode cJ17_equals 17 = .ok (.iconst 1, 1) := dk_4 (dk_at dksJ17_equals_0 17 rfl rfl)
theorem dJ17_equals_18 : decode cJ17_equals 18 = .ok (.goto 4, 3) := dk_167 0 4 (dk_at dksJ17_equals_0 18 rfl rfl)
theorem dJ17_equals_21 : decode cJ17_equals 21 = .ok (.iconst 0, 1) := dk_3 (dk_at dksJ17_equals_0 21 rfl rfl)
theorem dJ17_equals_22 : decode cJ17_equals 22 = .ok (.ireturn, 1) := dk_172 (dk_at dksJ17_equals_0 22 rfl rfl)
abbrev cJ17_checkIndex : ByteArray := prog_58_method_17_code
def yJ17_checkIndex : MethodName := ⟨RJ17, "checkIndex", "(II)I"⟩
def dkwJ17_checkIndex_0 : List UInt8 := [26, 27, 1, 184, 0, 105, 172]
abbrev dktJ17_checkIndex_0 : List UInt8 := dkwJ17_checkIndex_0 ++ []
theorem dksJ17_checkIndex_0 : cJ17_checkIndex.data.toList.drop 0 = dktJ17_checkIndex_0 := by decide +kernel
theorem dJ17_checkIndex_0 : decode cJ17_checkIndex 0 = .ok (.iload_n 0, 1) := dk_26 (dk_at dksJ17_checkIndex_0 0 rfl rfl)
theorem dJ17_checkIndex_1 : decode cJ17_checkIndex 1 = .ok (.iload_n 1, 1) := dk_27 (dk_at dksJ17_checkIndex_0 1 rfl rfl)
theorem dJ17_checkIndex_2 : decode cJ17_checkIndex 2 = .ok (.aconst_null, 1) := dk_1 (dk_at dksJ17_checkIndex_0 2 rfl rfl)
theorem dJ17_checkIndex_3 : decode cJ17_checkIndex 3 = .ok (.invokestatic 105, 3) := dk_184 0 105 (dk_at dksJ17_checkIndex_0 3 rfl rfl)
theorem dJ17_checkIndex_6 : decode cJ17_checkIndex 6 = .ok (.ireturn, 1) := dk_172 (dk_at dksJ17_checkIndex_0 6 rfl rfl)
theorem q119 : (Jvm.Cond.initialized "java/util/Objects") ∈ lw_all := lw_g (lw_at lw_m1 26 rfl) rfl
theorem q680 : (Jvm.Cond.static ({ cls := "java/util/Objects", name := "requireNonNull", desc := "(Ljava/lang/Object;)Ljava/lang/Object;" } : Jvm.MethodName)) ∈ lw_all := lw_g (lw_at lw_m3 107 rfl) rfl
theorem q681 : (Jvm.Cond.code ({ cls := "java/util/Objects", name := "requireNonNull", desc := "(Ljava/lang/Object;)Ljava/lang/Object;" } : Jvm.MethodName) prog_58_method_10_code (1 : Nat) (Option.some (Jvm.ClassFile.FieldType.object "java/lang/Object"))) ∈ lw_all := lw_g (lw_at lw_m3 108 rfl) rfl
theorem q1666 : (Jvm.Cond.static ({ cls := "java/util/Objects", name := "equals", desc := "(Ljava/lang/Object;Ljava/lang/Object;)Z" } : Jvm.MethodName)) ∈ lw_all := lw_g (lw_at lw_m7 133 rfl) rfl
theorem q1667 : (Jvm.Cond.code ({ cls := "java/util/Objects", name := "equals", desc := "(Ljava/lang/Object;Ljava/lang/Object;)Z" } : Jvm.MethodName) prog_58_method_2_code (2 : Nat) (Option.some Jvm.ClassFile.FieldType.boolean)) ∈ lw_all := lw_g (lw_at lw_m7 134 rfl) rfl
theorem q1669 : (Jvm.Cond.methodLink "java/util/Objects" (14 : Nat) ({ cls := "java/lang/Object", name := "equals", desc := "(Ljava/lang/Object;)Z" } : Jvm.MethodName)) ∈ lw_all := lw_g (lw_at lw_m7 136 rfl) rfl
theorem q1737 : (Jvm.Cond.static ({ cls := "java/util/Objects", name := "checkIndex", desc := "(II)I" } : Jvm.MethodName)) ∈ lw_all := lw_g (lw_at lw_m7 204 rfl) rfl
theorem q1738 : (Jvm.Cond.code ({ cls := "java/util/Objects", name := "checkIndex", desc := "(II)I" } : Jvm.MethodName) prog_58_method_17_code (2 : Nat) (Option.some Jvm.ClassFile.FieldType.int)) ∈ lw_all := lw_g (lw_at lw_m7 205 rfl) rfl
theorem q1739 : (Jvm.Cond.methodLink "java/util/Objects" (105 : Nat) ({ cls := "jdk/internal/util/Preconditions", name := "checkIndex", desc := "(IILjava/util/function/BiFunction;)I" } : Jvm.MethodName)) ∈ lw_all := lw_g (lw_at lw_m7 206 rfl) rfl

/-! java/lang/Throwable -/
set_option maxRecDepth 100000
def RJ26 : String := "java/lang/Throwable"
def TJ26 : u_T := fun k => match k with
  | 0 => ("java/lang/Throwable", "cause", "Ljava/lang/Throwable;", false)
  | 1 => ("java/lang/Throwable", "stackTrace", "[Ljava/lang/StackTraceElement;", false)
  | 2 => ("java/lang/Throwable", "suppressedExceptions", "Ljava/util/List;", false)
  | 3 => ("java/lang/Throwable", "detailMessage", "Ljava/lang/String;", false)
  | _ => ("java/lang/Throwable", "backtrace", "Ljava/lang/Object;", false)
def tyJ26 : Nat → FieldType := fun k => match k with
  | 0 => .object "java/lang/Throwable"
  | 1 => .array (.object "java/lang/StackTraceElement")
  | 2 => .object "java/util/List"
  | 3 => .object "java/lang/String"
  | _ => .object "java/lang/Object"
abbrev wsJ260 : List Cond := u_ws RJ26 TJ26 5
theorem nmJ26 : ∀ a, a < 5 → ∀ b, b < 5 → a ≠ b → (TJ26 a).2.1 ≠ (TJ26 b).2.1 := by decide +kernel
theorem tyJ26_ok : ∀ k, k < 5 → parseFieldDescriptor (TJ26 k).2.2.1 = some (tyJ26 k) := by decide +kernel
abbrev cJ26_init : ByteArray := prog_37_method_1_code
def yJ26_init : MethodName := ⟨RJ26, "<init>", "()V"⟩
def dkwJ26_init_1 : List UInt8 := [182, 0, 27, 87, 177]
abbrev dktJ26_init_1 : List UInt8 := dkwJ26_init_1 ++ []
def dkwJ26_init_0 : List UInt8 := [42, 183, 0, 1, 42, 42, 181, 0, 7, 42, 178, 0, 13, 181, 0, 17, 42, 178, 0, 20, 181, 0, 24, 42]
abbrev dktJ26_init_0 : List UInt8 := dkwJ26_init_0 ++ dktJ26_init_1
theorem dksJ26_init_0 : cJ26_init.data.toList.drop 0 = dktJ26_init_0 := by decide +kernel
theorem dksJ26_init_1 : cJ26_init.data.toList.drop 24 = dktJ26_init_1 := dk_seg dksJ26_init_0 24 rfl rfl
theorem dJ26_init_0 : decode cJ26_init 0 = .ok (.aload_n 0, 1) := dk_42 (dk_at dksJ26_init_0 0 rfl rfl)
theorem dJ26_init_1 : decode cJ26_init 1 = .ok (.invokespecial 1, 3) := dk_183 0 1 (dk_at dksJ26_init_0 1 rfl rfl)
theorem dJ26_init_4 : decode cJ26_init 4 = .ok (.aload_n 0, 1) := dk_42 (dk_at dksJ26_init_0 4 rfl rfl)
theorem dJ26_init_5 : decode cJ26_init 5 = .ok (.aload_n 0, 1) := dk_42 (dk_at dksJ26_init_0 5 rfl rfl)
theorem dJ26_init_6 : decode cJ26_init 6 = .ok (.putfield 7, 3) := dk_181 0 7 (dk_at dksJ26_init_0 6 rfl rfl)
theorem dJ26_init_9 : decode cJ26_init 9 = .ok (.aload_n 0, 1) := dk_42 (dk_at dksJ26_init_0 9 rfl rfl)
theorem dJ26_init_10 : decode cJ26_init 10 = .ok (.getstatic 13, 3) := dk_178 0 13 (dk_at dksJ26_init_0 10 rfl rfl)
theorem dJ26_init_13 : decode cJ26_init 13 = .ok (.putfield 17, 3) := dk_181 0 17 (dk_at dksJ26_init_0 13 rfl rfl)
theorem dJ26_init_16 : decode cJ26_init 16 = .ok (.aload_n 0, 1) := dk_42 (dk_at dksJ26_init_0 16 rfl rfl)
theorem dJ26_init_17 : decode cJ26_init 17 = .ok (.getstatic 20, 3) := dk_178 0 20 (dk_at dksJ26_init_0 17 rfl rfl)
theorem dJ26_init_20 : decode cJ26_init 20 = .ok (.putfield 24, 3) := dk_181 0 24 (dk_at dksJ26_init_0 20 rfl rfl)
theorem dJ26_init_23 : decode cJ26_init 23 = .ok (.aload_n 0, 1) := dk_42 (dk_at dksJ26_init_0 23 rfl rfl)
theorem dJ26_init_24 : decode cJ26_init 24 = .ok (.invokevirtual 27, 3) := dk_182 0 27 (dk_at dksJ26_init_1 0 rfl rfl)
theorem dJ26_init_27 : decode cJ26_init 27 = .ok (.pop, 1) := dk_87 (dk_at dksJ26_init_1 3 rfl rfl)
theorem dJ26_init_28 : decode cJ26_init 28 = .ok (.return_, 1) := dk_177 (dk_at dksJ26_init_1 4 rfl rfl)
abbrev cJ26_init_2 : ByteArray := prog_37_method_2_code
def yJ26_init_2 : MethodName := ⟨RJ26, "<init>", "(Ljava/lang/String;)V"⟩
def dkwJ26_init_2_1 : List UInt8 := [182, 0, 27, 87, 42, 43, 181, 0, 31, 177]
abbrev dktJ26_init_2_1 : List UInt8 := dkwJ26_init_2_1 ++ []
def dkwJ26_init_2_0 : List UInt8 := [42, 183, 0, 1, 42, 42, 181, 0, 7, 42, 178, 0, 13, 181, 0, 17, 42, 178, 0, 20, 181, 0, 24, 42]
abbrev dktJ26_init_2_0 : List UInt8 := dkwJ26_init_2_0 ++ dktJ26_init_2_1
theorem dksJ26_init_2_0 : cJ26_init_2.data.toList.drop 0 = dktJ26_init_2_0 := by decide +kernel
theorem dksJ26_init_2_1 : cJ26_init_2.data.toList.drop 24 = dktJ26_init_2_1 := dk_seg dksJ26_init_2_0 24 rfl rfl
theorem dJ26_init_2_0 : decode cJ26_init_2 0 = .ok (.aload_n 0, 1) := dk_42 (dk_at dksJ26_init_2_0 0 rfl rfl)
theorem dJ26_init_2_1 : decode cJ26_init_2 1 = .ok (.invokespecial 1, 3) := dk_183 0 1 (dk_at dksJ26_init_2_0 1 rfl rfl)
theorem dJ26_init_2_4 : decode cJ26_init_2 4 = .ok (.aload_n 0, 1) := dk_42 (dk_at dksJ26_init_2_0 4 rfl rfl)
theorem dJ26_init_2_5 : decode cJ26_init_2 5 = .ok (.aload_n 0, 1) := dk_42 (dk_at dksJ26_init_2_0 5 rfl rfl)
theorem dJ26_init_2_6 : decode cJ26_init_2 6 = .ok (.putfield 7, 3) := dk_181 0 7 (dk_at dksJ26_init_2_0 6 rfl rfl)
theorem dJ26_init_2_9 : decode cJ26_init_2 9 = .ok (.aload_n 0, 1) := dk_42 (dk_at dksJ26_init_2_0 9 rfl rfl)
theorem dJ26_init_2_10 : decode cJ26_init_2 10 = .ok (.getstatic 13, 3) := dk_178 0 13 (dk_at dksJ26_init_2_0 10 rfl rfl)
theorem dJ26_init_2_13 : decode cJ26_init_2 13 = .ok (.putfield 17, 3) := dk_181 0 17 (dk_at dksJ26_init_2_0 13 rfl rfl)
theorem dJ26_init_2_16 : decode cJ26_init_2 16 = .ok (.aload_n 0, 1) := dk_42 (dk_at dksJ26_init_2_0 16 rfl rfl)
theorem dJ26_init_2_17 : decode cJ26_init_2 17 = .ok (.getstatic 20, 3) := dk_178 0 20 (dk_at dksJ26_init_2_0 17 rfl rfl)
theorem dJ26_init_2_20 : decode cJ26_init_2 20 = .ok (.putfield 24, 3) := dk_181 0 24 (dk_at dksJ26_init_2_0 20 rfl rfl)
theorem dJ26_init_2_23 : decode cJ26_init_2 23 = .ok (.aload_n 0, 1) := dk_42 (dk_at dksJ26_init_2_0 23 rfl rfl)
theorem dJ26_init_2_24 : decode cJ26_init_2 24 = .ok (.invokevirtual 27, 3) := dk_182 0 27 (dk_at dksJ26_init_2_1 0 rfl rfl)
theorem dJ26_init_2_27 : decode cJ26_init_2 27 = .ok (.pop, 1) := dk_87 (dk_at dksJ26_init_2_1 3 rfl rfl)
theorem dJ26_init_2_28 : decode cJ26_init_2 28 = .ok (.aload_n 0, 1) := dk_42 (dk_at dksJ26_init_2_1 4 rfl rfl)
theorem dJ26_init_2_29 : decode cJ26_init_2 29 = .ok (.aload_n 1, 1) := dk_43 (dk_at dksJ26_init_2_1 5 rfl rfl)
theorem dJ26_init_2_30 : decode cJ26_init_2 30 = .ok (.putfield 31, 3) := dk_181 0 31 (dk_at dksJ26_init_2_1 6 rfl rfl)
theorem dJ26_init_2_33 : decode cJ26_init_2 33 = .ok (.return_, 1) := dk_177 (dk_at dksJ26_init_2_1 9 rfl rfl)
theorem q130 : (Jvm.Cond.initialized "java/lang/Throwable") ∈ lw_all := lw_g (lw_at lw_m1 37 rfl) rfl
theorem q1278 : (Jvm.Cond.declares ({ cls := "java/lang/Throwable", name := "<init>", desc := "()V" } : Jvm.MethodName)) ∈ lw_tbl := lw_at lw_m5 225 rfl
theorem q1279 : (Jvm.Cond.declares ({ cls := "java/lang/Throwable", name := "<init>", desc := "(Ljava/lang/String;)V" } : Jvm.MethodName)) ∈ lw_tbl := lw_at lw_m5 226 rfl
theorem q1283 : (Jvm.Cond.lays "java/lang/Throwable" "java/lang/Throwable" "cause" "Ljava/lang/Throwable;") ∈ lw_all := lw_g (lw_at lw_m5 230 rfl) rfl
theorem q1285 : (Jvm.Cond.lays "java/lang/Throwable" "java/lang/Throwable" "stackTrace" "[Ljava/lang/StackTraceElement;") ∈ lw_all := lw_g (lw_at lw_m5 232 rfl) rfl
theorem q1287 : (Jvm.Cond.lays "java/lang/Throwable" "java/lang/Throwable" "suppressedExceptions" "Ljava/util/List;") ∈ lw_all := lw_g (lw_at lw_m5 234 rfl) rfl
theorem q1289 : (Jvm.Cond.lays "java/lang/Throwable" "java/lang/Throwable" "detailMessage" "Ljava/lang/String;") ∈ lw_all := lw_g (lw_at lw_m5 236 rfl) rfl
theorem q1291 : (Jvm.Cond.lays "java/lang/Throwable" "java/lang/Throwable" "backtrace" "Ljava/lang/Object;") ∈ lw_all := lw_g (lw_at lw_m5 238 rfl) rfl
theorem q1292 : (Jvm.Cond.fieldLink "java/lang/Throwable" (198 : Nat) "java/lang/Throwable" "backtrace" "Ljava/lang/Object;") ∈ lw_all := lw_g (lw_at lw_m5 239 rfl) rfl
theorem q1293 : (Jvm.Cond.superclass "java/lang/Throwable" "java/lang/Object") ∈ lw_all := lw_g (lw_at lw_m6 0 rfl) rfl
theorem q1294 : (Jvm.Cond.instanceMethod ({ cls := "java/lang/Throwable", name := "<init>", desc := "()V" } : Jvm.MethodName)) ∈ lw_all := lw_g (lw_at lw_m6 1 rfl) rfl
theorem q1295 : (Jvm.Cond.code ({ cls := "java/lang/Throwable", name := "<init>", desc := "()V" } : Jvm.MethodName) prog_37_method_1_code (1 : Nat) (Option.none : Option Jvm.ClassFile.FieldType)) ∈ lw_all := lw_g (lw_at lw_m6 2 rfl) rfl
theorem q1296 : (Jvm.Cond.methodLink "java/lang/Throwable" (1 : Nat) ({ cls := "java/lang/Object", name := "<init>", desc := "()V" } : Jvm.MethodName)) ∈ lw_all := lw_g (lw_at lw_m6 3 rfl) rfl
theorem q1297 : (Jvm.Cond.fieldLink "java/lang/Throwable" (13 : Nat) "java/lang/Throwable" "UNASSIGNED_STACK" "[Ljava/lang/StackTraceElement;") ∈ lw_all := lw_g (lw_at lw_m6 4 rfl) rfl
theorem q1298 : (Jvm.Cond.laysStatic "java/lang/Throwable" "UNASSIGNED_STACK" "[Ljava/lang/StackTraceElement;") ∈ lw_tbl := lw_at lw_m6 5 rfl
theorem q1299 : (Jvm.Cond.fieldLink "java/lang/Throwable" (20 : Nat) "java/lang/Throwable" "SUPPRESSED_SENTINEL" "Ljava/util/List;") ∈ lw_all := lw_g (lw_at lw_m6 6 rfl) rfl
theorem q1300 : (Jvm.Cond.laysStatic "java/lang/Throwable" "SUPPRESSED_SENTINEL" "Ljava/util/List;") ∈ lw_tbl := lw_at lw_m6 7 rfl
theorem q1301 : (Jvm.Cond.methodLink "java/lang/Throwable" (27 : Nat) ({ cls := "java/lang/Throwable", name := "fillInStackTrace", desc := "()Ljava/lang/Throwable;" } : Jvm.MethodName)) ∈ lw_all := lw_g (lw_at lw_m6 8 rfl) rfl
theorem q1302 : (Jvm.Cond.instanceMethod ({ cls := "java/lang/Throwable", name := "fillInStackTrace", desc := "()Ljava/lang/Throwable;" } : Jvm.MethodName)) ∈ lw_all := lw_g (lw_at lw_m6 9 rfl) rfl
theorem q1303 : (Jvm.Cond.sameMethod "java/lang/Throwable" "java/lang/Throwable" "fillInStackTrace" "()Ljava/lang/Throwable;") ∈ lw_all := lw_g (lw_at lw_m6 10 rfl) rfl
theorem q1304 : (Jvm.Cond.codeSync ({ cls := "java/lang/Throwable", name := "fillInStackTrace", desc := "()Ljava/lang/Throwable;" } : Jvm.MethodName) prog_37_method_18_code (1 : Nat) (Option.some (Jvm.ClassFile.FieldType.object "java/lang/Throwable"))) ∈ lw_all := lw_g (lw_at lw_m6 11 rfl) rfl
theorem q1305 : (Jvm.Cond.methodLink "java/lang/Throwable" (202 : Nat) ({ cls := "java/lang/Throwable", name := "fillInStackTrace", desc := "(I)Ljava/lang/Throwable;" } : Jvm.MethodName)) ∈ lw_all := lw_g (lw_at lw_m6 12 rfl) rfl
theorem q1306 : (Jvm.Cond.privateMethod ({ cls := "java/lang/Throwable", name := "fillInStackTrace", desc := "(I)Ljava/lang/Throwable;" } : Jvm.MethodName)) ∈ lw_tbl := lw_at lw_m6 13 rfl
theorem q1307 : (Jvm.Cond.instanceMethod ({ cls := "java/lang/Throwable", name := "fillInStackTrace", desc := "(I)Ljava/lang/Throwable;" } : Jvm.MethodName)) ∈ lw_all := lw_g (lw_at lw_m6 14 rfl) rfl
theorem q1308 : (Jvm.Cond.instantiable "java/lang/Throwable" (6 : Nat)) ∈ lw_all := lw_g (lw_at lw_m6 15 rfl) rfl
theorem q1309 : (Jvm.Cond.native ({ cls := "java/lang/Throwable", name := "fillInStackTrace", desc := "(I)Ljava/lang/Throwable;" } : Jvm.MethodName)) ∈ lw_all := lw_g (lw_at lw_m6 16 rfl) rfl
theorem q1321 : (Jvm.Cond.instanceMethod ({ cls := "java/lang/Throwable", name := "<init>", desc := "(Ljava/lang/String;)V" } : Jvm.MethodName)) ∈ lw_all := lw_g (lw_at lw_m6 28 rfl) rfl
theorem q1322 : (Jvm.Cond.code ({ cls := "java/lang/Throwable", name := "<init>", desc := "(Ljava/lang/String;)V" } : Jvm.MethodName) prog_37_method_2_code (2 : Nat) (Option.none : Option Jvm.ClassFile.FieldType)) ∈ lw_all := lw_g (lw_at lw_m6 29 rfl) rfl
theorem q1325 : (Jvm.Cond.fieldLink "java/lang/Throwable" (198 : Nat) "java/lang/Throwable" "backtrace" "Ljava/lang/Object;") ∈ lw_all := lw_g (lw_at lw_m6 32 rfl) rfl
theorem q1326 : (Jvm.Cond.fieldLink "java/lang/Throwable" (31 : Nat) "java/lang/Throwable" "detailMessage" "Ljava/lang/String;") ∈ lw_all := lw_g (lw_at lw_m6 33 rfl) rfl
theorem q1327 : (Jvm.Cond.fieldLink "java/lang/Throwable" (7 : Nat) "java/lang/Throwable" "cause" "Ljava/lang/Throwable;") ∈ lw_all := lw_g (lw_at lw_m6 34 rfl) rfl
theorem q1328 : (Jvm.Cond.fieldLink "java/lang/Throwable" (17 : Nat) "java/lang/Throwable" "stackTrace" "[Ljava/lang/StackTraceElement;") ∈ lw_all := lw_g (lw_at lw_m6 35 rfl) rfl
theorem q1329 : (Jvm.Cond.fieldLink "java/lang/Throwable" (24 : Nat) "java/lang/Throwable" "suppressedExceptions" "Ljava/util/List;") ∈ lw_all := lw_g (lw_at lw_m6 36 rfl) rfl
theorem q1332 : (Jvm.Cond.soleField "java/lang/Throwable" "backtrace") ∈ lw_all := lw_g (lw_at lw_m6 39 rfl) rfl
theorem q1333 : (Jvm.Cond.soleField "java/lang/Throwable" "detailMessage") ∈ lw_all := lw_g (lw_at lw_m6 40 rfl) rfl
theorem q1334 : (Jvm.Cond.soleField "java/lang/Throwable" "cause") ∈ lw_all := lw_g (lw_at lw_m6 41 rfl) rfl
theorem q1335 : (Jvm.Cond.soleField "java/lang/Throwable" "stackTrace") ∈ lw_all := lw_g (lw_at lw_m6 42 rfl) rfl
theorem q1337 : (Jvm.Cond.soleField "java/lang/Throwable" "depth") ∈ lw_all := lw_g (lw_at lw_m6 44 rfl) rfl
theorem q1338 : (Jvm.Cond.soleField "java/lang/Throwable" "suppressedExceptions") ∈ lw_all := lw_g (lw_at lw_m6 45 rfl) rfl
theorem q3092 : (Jvm.Cond.sameMethod "java/lang/Throwable" "java/lang/Throwable" "fillInStackTrace" "(I)Ljava/lang/Throwable;") ∈ lw_all := lw_g (lw_at lw_m13 119 rfl) rfl
theorem q3141 : (Jvm.Cond.castable "java/lang/Throwable" "java/lang/Object") ∈ lw_tbl := lw_at lw_m13 168 rfl
theorem in_J26 : ∀ w ∈ wsJ260, w ∈ lw_all := lw_in wsJ260 [1283, 1285, 1287, 1289, 1291] (by decide +kernel) (by decide +kernel)

/-! java/lang/Exception -/
set_option maxRecDepth 100000
def RJ27 : String := "java/lang/Exception"
abbrev cJ27_init : ByteArray := prog_25_method_2_code
def yJ27_init : MethodName := ⟨RJ27, "<init>", "(Ljava/lang/String;)V"⟩
def dkwJ27_init_0 : List UInt8 := [42, 43, 183, 0, 7, 177]
abbrev dktJ27_init_0 : List UInt8 := dkwJ27_init_0 ++ []
theorem dksJ27_init_0 : cJ27_init.data.toList.drop 0 = dktJ27_init_0 := by decide +kernel
theorem dJ27_init_0 : decode cJ27_init 0 = .ok (.aload_n 0, 1) := dk_42 (dk_at dksJ27_init_0 0 rfl rfl)
theorem dJ27_init_1 : decode cJ27_init 1 = .ok (.aload_n 1, 1) := dk_43 (dk_at dksJ27_init_0 1 rfl rfl)
theorem dJ27_init_2 : decode cJ27_init 2 = .ok (.invokespecial 7, 3) := dk_183 0 7 (dk_at dksJ27_init_0 2 rfl rfl)
theorem dJ27_init_5 : decode cJ27_init 5 = .ok (.return_, 1) := dk_177 (dk_at dksJ27_init_0 5 rfl rfl)
theorem q131 : (Jvm.Cond.initialized "java/lang/Exception") ∈ lw_all := lw_g (lw_at lw_m1 38 rfl) rfl
theorem q1276 : (Jvm.Cond.declares ({ cls := "java/lang/Exception", name := "<init>", desc := "()V" } : Jvm.MethodName)) ∈ lw_tbl := lw_at lw_m5 223 rfl
theorem q1277 : (Jvm.Cond.declares ({ cls := "java/lang/Exception", name := "<init>", desc := "(Ljava/lang/String;)V" } : Jvm.MethodName)) ∈ lw_tbl := lw_at lw_m5 224 rfl
theorem q1318 : (Jvm.Cond.instanceMethod ({ cls := "java/lang/Exception", name := "<init>", desc := "(Ljava/lang/String;)V" } : Jvm.MethodName)) ∈ lw_all := lw_g (lw_at lw_m6 25 rfl) rfl
theorem q1319 : (Jvm.Cond.code ({ cls := "java/lang/Exception", name := "<init>", desc := "(Ljava/lang/String;)V" } : Jvm.MethodName) prog_25_method_2_code (2 : Nat) (Option.none : Option Jvm.ClassFile.FieldType)) ∈ lw_all := lw_g (lw_at lw_m6 26 rfl) rfl
theorem q1320 : (Jvm.Cond.methodLink "java/lang/Exception" (7 : Nat) ({ cls := "java/lang/Throwable", name := "<init>", desc := "(Ljava/lang/String;)V" } : Jvm.MethodName)) ∈ lw_all := lw_g (lw_at lw_m6 27 rfl) rfl

/-! java/lang/RuntimeException -/
set_option maxRecDepth 100000
def RJ28 : String := "java/lang/RuntimeException"
abbrev cJ28_init : ByteArray := prog_32_method_2_code
def yJ28_init : MethodName := ⟨RJ28, "<init>", "(Ljava/lang/String;)V"⟩
def dkwJ28_init_0 : List UInt8 := [42, 43, 183, 0, 7, 177]
abbrev dktJ28_init_0 : List UInt8 := dkwJ28_init_0 ++ []
theorem dksJ28_init_0 : cJ28_init.data.toList.drop 0 = dktJ28_init_0 := by decide +kernel
theorem dJ28_init_0 : decode cJ28_init 0 = .ok (.aload_n 0, 1) := dk_42 (dk_at dksJ28_init_0 0 rfl rfl)
theorem dJ28_init_1 : decode cJ28_init 1 = .ok (.aload_n 1, 1) := dk_43 (dk_at dksJ28_init_0 1 rfl rfl)
theorem dJ28_init_2 : decode cJ28_init 2 = .ok (.invokespecial 7, 3) := dk_183 0 7 (dk_at dksJ28_init_0 2 rfl rfl)
theorem dJ28_init_5 : decode cJ28_init 5 = .ok (.return_, 1) := dk_177 (dk_at dksJ28_init_0 5 rfl rfl)
theorem q132 : (Jvm.Cond.initialized "java/lang/RuntimeException") ∈ lw_all := lw_g (lw_at lw_m1 39 rfl) rfl
theorem q1274 : (Jvm.Cond.declares ({ cls := "java/lang/RuntimeException", name := "<init>", desc := "()V" } : Jvm.MethodName)) ∈ lw_tbl := lw_at lw_m5 221 rfl
theorem q1275 : (Jvm.Cond.declares ({ cls := "java/lang/RuntimeException", name := "<init>", desc := "(Ljava/lang/String;)V" } : Jvm.MethodName)) ∈ lw_tbl := lw_at lw_m5 222 rfl
theorem q1315 : (Jvm.Cond.instanceMethod ({ cls := "java/lang/RuntimeException", name := "<init>", desc := "(Ljava/lang/String;)V" } : Jvm.MethodName)) ∈ lw_all := lw_g (lw_at lw_m6 22 rfl) rfl
theorem q1316 : (Jvm.Cond.code ({ cls := "java/lang/RuntimeException", name := "<init>", desc := "(Ljava/lang/String;)V" } : Jvm.MethodName) prog_32_method_2_code (2 : Nat) (Option.none : Option Jvm.ClassFile.FieldType)) ∈ lw_all := lw_g (lw_at lw_m6 23 rfl) rfl
theorem q1317 : (Jvm.Cond.methodLink "java/lang/RuntimeException" (7 : Nat) ({ cls := "java/lang/Exception", name := "<init>", desc := "(Ljava/lang/String;)V" } : Jvm.MethodName)) ∈ lw_all := lw_g (lw_at lw_m6 24 rfl) rfl

/-! java/util/Arrays -/
set_option maxRecDepth 100000
def RJ29 : String := "java/util/Arrays"
abbrev cJ29_copyOf : ByteArray := prog_49_method_119_code
def yJ29_copyOf : MethodName := ⟨RJ29, "copyOf", "([Ljava/lang/Object;I)[Ljava/lang/Object;"⟩
def dkwJ29_copyOf_0 : List UInt8 := [42, 27, 42, 182, 0, 86, 184, 1, 44, 176]
abbrev dktJ29_copyOf_0 : List UInt8 := dkwJ29_copyOf_0 ++ []
theorem dksJ29_copyOf_0 : cJ29_copyOf.data.toList.drop 0 = dktJ29_copyOf_0 := by decide +kernel
theorem dJ29_copyOf_0 : decode cJ29_copyOf 0 = .ok (.aload_n 0, 1) := dk_42 (dk_at dksJ29_copyOf_0 0 rfl rfl)
theorem dJ29_copyOf_1 : decode cJ29_copyOf 1 = .ok (.iload_n 1, 1) := dk_27 (dk_at dksJ29_copyOf_0 1 rfl rfl)
theorem dJ29_copyOf_2 : decode cJ29_copyOf 2 = .ok (.aload_n 0, 1) := dk_42 (dk_at dksJ29_copyOf_0 2 rfl rfl)
theorem dJ29_copyOf_3 : decode cJ29_copyOf 3 = .ok (.invokevirtual 86, 3) := dk_182 0 86 (dk_at dksJ29_copyOf_0 3 rfl rfl)
theorem dJ29_copyOf_6 : decode cJ29_copyOf 6 = .ok (.invokestatic 300, 3) := dk_184 1 44 (dk_at dksJ29_copyOf_0 6 rfl rfl)
theorem dJ29_copyOf_9 : decode cJ29_copyOf 9 = .ok (.areturn, 1) := dk_176 (dk_at dksJ29_copyOf_0 9 rfl rfl)
abbrev cJ29_copyOf_2 : ByteArray := prog_49_method_120_code
def yJ29_copyOf_2 : MethodName := ⟨RJ29, "copyOf", "([Ljava/lang/Object;ILjava/lang/Class;)[Ljava/lang/Object;"⟩
def dkwJ29_copyOf_2_1 : List UInt8 := [78, 42, 3, 45, 3, 42, 190, 27, 184, 1, 48, 184, 0, 150, 45, 176]
abbrev dktJ29_copyOf_2_1 : List UInt8 := dkwJ29_copyOf_2_1 ++ []
def dkwJ29_copyOf_2_0 : List UInt8 := [44, 18, 110, 166, 0, 10, 27, 189, 0, 2, 167, 0, 14, 44, 182, 0, 90, 27, 184, 0, 95, 192, 0, 110]
abbrev dktJ29_copyOf_2_0 : List UInt8 := dkwJ29_copyOf_2_0 ++ dktJ29_copyOf_2_1
theorem dksJ29_copyOf_2_0 : cJ29_copyOf_2.data.toList.drop 0 = dktJ29_copyOf_2_0 := by decide +kernel
theorem dksJ29_copyOf_2_1 : cJ29_copyOf_2.data.toList.drop 24 = dktJ29_copyOf_2_1 := dk_seg dksJ29_copyOf_2_0 24 rfl rfl
theorem dJ29_copyOf_2_0 : decode cJ29_copyOf_2 0 = .ok (.aload_n 2, 1) := dk_44 (dk_at dksJ29_copyOf_2_0 0 rfl rfl)
theorem dJ29_copyOf_2_1 : decode cJ29_copyOf_2 1 = .ok (.ldc 110, 2) := dk_18 110 (dk_at dksJ29_copyOf_2_0 1 rfl rfl)
theorem dJ29_copyOf_2_3 : decode cJ29_copyOf_2 3 = .ok (.if_acmp .ne 10, 3) := dk_166 0 10 (dk_at dksJ29_copyOf_2_0 3 rfl rfl)
theorem dJ29_copyOf_2_6 : decode cJ29_copyOf_2 6 = .ok (.iload_n 1, 1) := dk_27 (dk_at dksJ29_copyOf_2_0 6 rfl rfl)
theorem dJ29_copyOf_2_7 : decode cJ29_copyOf_2 7 = .ok (.anewarray 2, 3) := dk_189 0 2 (dk_at dksJ29_copyOf_2_0 7 rfl rfl)
theorem dJ29_copyOf_2_10 : decode cJ29_copyOf_2 10 = .ok (.goto 14, 3) := dk_167 0 14 (dk_at dksJ29_copyOf_2_0 10 rfl rfl)
theorem dJ29_copyOf_2_13 : decode cJ29_copyOf_2 13 = .ok (.aload_n 2, 1) := dk_44 (dk_at dksJ29_copyOf_2_0 13 rfl rfl)
theorem dJ29_copyOf_2_14 : decode cJ29_copyOf_2 14 = .ok (.invokevirtual 90, 3) := dk_182 0 90 (dk_at dksJ29_copyOf_2_0 14 rfl rfl)
theorem dJ29_copyOf_2_17 : decode cJ29_copyOf_2 17 = .ok (.iload_n 1, 1) := dk_27 (dk_at dksJ29_copyOf_2_0 17 rfl rfl)
theorem dJ29_copyOf_2_18 : decode cJ29_copyOf_2 18 = .ok (.invokestatic 95, 3) := dk_184 0 95 (dk_at dksJ29_copyOf_2_0 18 rfl rfl)
theorem dJ29_copyOf_2_21 : decode cJ29_copyOf_2 21 = .ok (.checkcast 110, 3) := dk_192 0 110 (dk_at dksJ29_copyOf_2_0 21 rfl rfl)
theorem dJ29_copyOf_2_24 : decode cJ29_copyOf_2 24 = .ok (.astore_n 3, 1) := dk_78 (dk_at dksJ29_copyOf_2_1 0 rfl rfl)
theorem dJ29_copyOf_2_25 : decode cJ29_copyOf_2 25 = .ok (.aload_n 0, 1) := dk_42 (dk_at dksJ29_copyOf_2_1 1 rfl rfl)
theorem dJ29_copyOf_2_26 : decode cJ29_copyOf_2 26 = .ok (.iconst 0, 1) := dk_3 (dk_at dksJ29_copyOf_2_1 2 rfl rfl)
theorem dJ29_copyOf_2_27 : decode cJ29_copyOf_2 27 = .ok (.aload_n 3, 1) := dk_45 (dk_at dksJ29_copyOf_2_1 3 rfl rfl)
theorem dJ29_copyOf_2_28 : decode cJ29_copyOf_2 28 = .ok (.iconst 0, 1) := dk_3 (dk_at dksJ29_copyOf_2_1 4 rfl rfl)
theorem dJ29_copyOf_2_29 : decode cJ29_copyOf_2 29 = .ok (.aload_n 0, 1) := dk_42 (dk_at dksJ29_copyOf_2_1 5 rfl rfl)
theorem dJ29_copyOf_2_30 : decode cJ29_copyOf_2 30 = .ok (.arraylength, 1) := dk_190 (dk_at dksJ29_copyOf_2_1 6 rfl rfl)
theorem dJ29_copyOf_2_31 : decode cJ29_copyOf_2 31 = .ok (.iload_n 1, 1) := dk_27 (dk_at dksJ29_copyOf_2_1 7 rfl rfl)
theorem dJ29_copyOf_2_32 : decode cJ29_copyOf_2 32 = .ok (.invokestatic 304, 3) := dk_184 1 48 (dk_at dksJ29_copyOf_2_1 8 rfl rfl)
theorem dJ29_copyOf_2_35 : decode cJ29_copyOf_2 35 = .ok (.invokestatic 150, 3) := dk_184 0 150 (dk_at dksJ29_copyOf_2_1 11 rfl rfl)
theorem dJ29_copyOf_2_38 : decode cJ29_copyOf_2 38 = .ok (.aload_n 3, 1) := dk_45 (dk_at dksJ29_copyOf_2_1 14 rfl rfl)
theorem dJ29_copyOf_2_39 : decode cJ29_copyOf_2 39 = .ok (.areturn, 1) := dk_176 (dk_at dksJ29_copyOf_2_1 15 rfl rfl)
theorem q135 : (Jvm.Cond.initialized "java/util/Arrays") ∈ lw_all := lw_g (lw_at lw_m1 42 rfl) rfl
theorem q1422 : (Jvm.Cond.static ({ cls := "java/util/Arrays", name := "copyOf", desc := "([Ljava/lang/Object;I)[Ljava/lang/Object;" } : Jvm.MethodName)) ∈ lw_all := lw_g (lw_at lw_m6 129 rfl) rfl
theorem q1423 : (Jvm.Cond.code ({ cls := "java/util/Arrays", name := "copyOf", desc := "([Ljava/lang/Object;I)[Ljava/lang/Object;" } : Jvm.MethodName) prog_49_method_119_code (2 : Nat) (Option.some (Jvm.ClassFile.FieldType.array (Jvm.ClassFile.FieldType.object "java/lang/Object")))) ∈ lw_all := lw_g (lw_at lw_m6 130 rfl) rfl
theorem q1424 : (Jvm.Cond.methodLink "java/util/Arrays" (86 : Nat) ({ cls := "java/lang/Object", name := "getClass", desc := "()Ljava/lang/Class;" } : Jvm.MethodName)) ∈ lw_all := lw_g (lw_at lw_m6 131 rfl) rfl
theorem q1462 : (Jvm.Cond.methodLink "java/util/Arrays" (300 : Nat) ({ cls := "java/util/Arrays", name := "copyOf", desc := "([Ljava/lang/Object;ILjava/lang/Class;)[Ljava/lang/Object;" } : Jvm.MethodName)) ∈ lw_all := lw_g (lw_at lw_m6 169 rfl) rfl
theorem q1463 : (Jvm.Cond.static ({ cls := "java/util/Arrays", name := "copyOf", desc := "([Ljava/lang/Object;ILjava/lang/Class;)[Ljava/lang/Object;" } : Jvm.MethodName)) ∈ lw_all := lw_g (lw_at lw_m6 170 rfl) rfl
theorem q1464 : (Jvm.Cond.code ({ cls := "java/util/Arrays", name := "copyOf", desc := "([Ljava/lang/Object;ILjava/lang/Class;)[Ljava/lang/Object;" } : Jvm.MethodName) prog_49_method_120_code (4 : Nat) (Option.some (Jvm.ClassFile.FieldType.array (Jvm.ClassFile.FieldType.object "java/lang/Object")))) ∈ lw_all := lw_g (lw_at lw_m6 171 rfl) rfl
theorem q1465 : (Jvm.Cond.classLink "java/util/Arrays" (110 : Nat) "[Ljava/lang/Object;") ∈ lw_all := lw_g (lw_at lw_m6 172 rfl) rfl
theorem q1467 : (Jvm.Cond.classLink "java/util/Arrays" (2 : Nat) "java/lang/Object") ∈ lw_all := lw_g (lw_at lw_m6 174 rfl) rfl
theorem q1468 : (Jvm.Cond.methodLink "java/util/Arrays" (304 : Nat) ({ cls := "java/lang/Math", name := "min", desc := "(II)I" } : Jvm.MethodName)) ∈ lw_all := lw_g (lw_at lw_m6 175 rfl) rfl
theorem q1469 : (Jvm.Cond.methodLink "java/util/Arrays" (150 : Nat) ({ cls := "java/lang/System", name := "arraycopy", desc := "(Ljava/lang/Object;ILjava/lang/Object;II)V" } : Jvm.MethodName)) ∈ lw_all := lw_g (lw_at lw_m6 176 rfl) rfl

/-! java/util/ArrayList$Itr -/
set_option maxRecDepth 100000
def RJ30 : String := "java/util/ArrayList$Itr"
def TJ30 : u_T := fun k => match k with
  | 0 => ("java/util/ArrayList$Itr", "cursor", "I", false)
  | 1 => ("java/util/ArrayList$Itr", "lastRet", "I", false)
  | 2 => ("java/util/ArrayList$Itr", "expectedModCount", "I", false)
  | _ => ("java/util/ArrayList$Itr", "this$0", "Ljava/util/ArrayList;", true)
def tyJ30 : Nat → FieldType := fun k => match k with
  | 0 => .int
  | 1 => .int
  | 2 => .int
  | _ => .object "java/util/ArrayList"
abbrev wsJ300 : List Cond := u_ws RJ30 TJ30 4
theorem nmJ30 : ∀ a, a < 4 → ∀ b, b < 4 → a ≠ b → (TJ30 a).2.1 ≠ (TJ30 b).2.1 := by decide +kernel
theorem tyJ30_ok : ∀ k, k < 4 → parseFieldDescriptor (TJ30 k).2.2.1 = some (tyJ30 k) := by decide +kernel
abbrev cJ30_hasNext : ByteArray := prog_48_method_2_code
def yJ30_hasNext : MethodName := ⟨RJ30, "hasNext", "()Z"⟩
def dkwJ30_hasNext_0 : List UInt8 := [42, 180, 0, 25, 42, 180, 0, 1, 180, 0, 28, 159, 0, 7, 4, 167, 0, 4, 3, 172]
abbrev dktJ30_hasNext_0 : List UInt8 := dkwJ30_hasNext_0 ++ []
theorem dksJ30_hasNext_0 : cJ30_hasNext.data.toList.drop 0 = dktJ30_hasNext_0 := by decide +kernel
theorem dJ30_hasNext_0 : decode cJ30_hasNext 0 = .ok (.aload_n 0, 1) := dk_42 (dk_at dksJ30_hasNext_0 0 rfl rfl)
theorem dJ30_hasNext_1 : decode cJ30_hasNext 1 = .ok (.getfield 25, 3) := dk_180 0 25 (dk_at dksJ30_hasNext_0 1 rfl rfl)
theorem dJ30_hasNext_4 : decode cJ30_hasNext 4 = .ok (.aload_n 0, 1) := dk_42 (dk_at dksJ30_hasNext_0 4 rfl rfl)
theorem dJ30_hasNext_5 : decode cJ30_hasNext 5 = .ok (.getfield 1, 3) := dk_180 0 1 (dk_at dksJ30_hasNext_0 5 rfl rfl)
theorem dJ30_hasNext_8 : decode cJ30_hasNext 8 = .ok (.getfield 28, 3) := dk_180 0 28 (dk_at dksJ30_hasNext_0 8 rfl rfl)
theorem dJ30_hasNext_11 : decode cJ30_hasNext 11 = .ok (.if_icmp .eq 7, 3) := dk_159 0 7 (dk_at dksJ30_hasNext_0 11 rfl rfl)
theorem dJ30_hasNext_14 : decode cJ30_hasNext 14 = .ok (.iconst 1, 1) := dk_4 (dk_at dksJ30_hasNext_0 14 rfl rfl)
theorem dJ30_hasNext_15 : decode cJ30_hasNext 15 = .ok (.goto 4, 3) := dk_167 0 4 (dk_at dksJ30_hasNext_0 15 rfl rfl)
theorem dJ30_hasNext_18 : decode cJ30_hasNext 18 = .ok (.iconst 0, 1) := dk_3 (dk_at dksJ30_hasNext_0 18 rfl rfl)
theorem dJ30_hasNext_19 : decode cJ30_hasNext 19 = .ok (.ireturn, 1) := dk_172 (dk_at dksJ30_hasNext_0 19 rfl rfl)
abbrev cJ30_next : ByteArray := prog_48_method_3_code
def yJ30_next : MethodName := ⟨RJ30, "next", "()Ljava/lang/Object;"⟩
def dkwJ30_next_2 : List UInt8 := [183, 0, 43, 191, 42, 27, 4, 96, 181, 0, 25, 44, 42, 27, 90, 181, 0, 13, 50, 176]
abbrev dktJ30_next_2 : List UInt8 := dkwJ30_next_2 ++ []
def dkwJ30_next_1 : List UInt8 := [183, 0, 36, 191, 42, 180, 0, 1, 180, 0, 37, 77, 27, 44, 190, 161, 0, 11, 187, 0, 41, 89]
abbrev dktJ30_next_1 : List UInt8 := dkwJ30_next_1 ++ dktJ30_next_2
def dkwJ30_next_0 : List UInt8 := [42, 182, 0, 31, 42, 180, 0, 25, 60, 27, 42, 180, 0, 1, 180, 0, 28, 161, 0, 11, 187, 0, 34, 89]
abbrev dktJ30_next_0 : List UInt8 := dkwJ30_next_0 ++ dktJ30_next_1
theorem dksJ30_next_0 : cJ30_next.data.toList.drop 0 = dktJ30_next_0 := by decide +kernel
theorem dksJ30_next_1 : cJ30_next.data.toList.drop 24 = dktJ30_next_1 := dk_seg dksJ30_next_0 24 rfl rfl
theorem dksJ30_next_2 : cJ30_next.data.toList.drop 46 = dktJ30_next_2 := dk_seg dksJ30_next_1 22 rfl rfl
theorem dJ30_next_0 : decode cJ30_next 0 = .ok (.aload_n 0, 1) := dk_42 (dk_at dksJ30_next_0 0 rfl rfl)
theorem dJ30_next_1 : decode cJ30_next 1 = .ok (.invokevirtual 31, 3) := dk_182 0 31 (dk_at dksJ30_next_0 1 rfl rfl)
theorem dJ30_next_4 : decode cJ30_next 4 = .ok (.aload_n 0, 1) := dk_42 (dk_at dksJ30_next_0 4 rfl rfl)
theorem dJ30_next_5 : decode cJ30_next 5 = .ok (.getfield 25, 3) := dk_180 0 25 (dk_at dksJ30_next_0 5 rfl rfl)
theorem dJ30_next_8 : decode cJ30_next 8 = .ok (.istore_n 1, 1) := dk_60 (dk_at dksJ30_next_0 8 rfl rfl)
theorem dJ30_next_9 : decode cJ30_next 9 = .ok (.iload_n 1, 1) := dk_27 (dk_at dksJ30_next_0 9 rfl rfl)
theorem dJ30_next_10 : decode cJ30_next 10 = .ok (.aload_n 0, 1) := dk_42 (dk_at dksJ30_next_0 10 rfl rfl)
theorem dJ30_next_11 : decode cJ30_next 11 = .ok (.getfield 1, 3) := dk_180 0 1 (dk_at dksJ30_next_0 11 rfl rfl)
theorem dJ30_next_14 : decode cJ30_next 14 = .ok (.getfield 28, 3) := dk_180 0 28 (dk_at dksJ30_next_0 14 rfl rfl)
theorem dJ30_next_17 : decode cJ30_next 17 = .ok (.if_icmp .lt 11, 3) := dk_161 0 11 (dk_at dksJ30_next_0 17 rfl rfl)
theorem dJ30_next_20 : decode cJ30_next 20 = .ok (.new 34, 3) := dk_187 0 34 (dk_at dksJ30_next_0 20 rfl rfl)
theorem dJ30_next_23 : decode cJ30_next 23 = .ok (.dup, 1) := dk_89 (dk_at dksJ30_next_0 23 rfl rfl)
theorem dJ30_next_24 : decode cJ30_next 24 = .ok (.invokespecial 36, 3) := dk_183 0 36 (dk_at dksJ30_next_1 0 rfl rfl)
theorem dJ30_next_27 : decode cJ30_next 27 = .ok (.athrow, 1) := dk_191 (dk_at dksJ30_next_1 3 rfl rfl)
theorem dJ30_next_28 : decode cJ30_next 28 = .ok (.aload_n 0, 1) := dk_42 (dk_at dksJ30_next_1 4 rfl rfl)
theorem dJ30_next_29 : decode cJ30_next 29 = .ok (.getfield 1, 3) := dk_180 0 1 (dk_at dksJ30_next_1 5 rfl rfl)
theorem dJ30_next_32 : decode cJ30_next 32 = .ok (.getfield 37, 3) := dk_180 0 37 (dk_at dksJ30_next_1 8 rfl rfl)
theorem dJ30_next_35 : decode cJ30_next 35 = .ok (.astore_n 2, 1) := dk_77 (dk_at dksJ30_next_1 11 rfl rfl)
theorem dJ30_next_36 : decode cJ30_next 36 = .ok (.iload_n 1, 1) := dk_27 (dk_at dksJ30_next_1 12 rfl rfl)
theorem dJ30_next_37 : decode cJ30_next 37 = .ok (.aload_n 2, 1) := dk_44 (dk_at dksJ30_next_1 13 rfl rfl)
theorem dJ30_next_38 : decode cJ30_next 38 = .ok (.arraylength, 1) := dk_190 (dk_at dksJ30_next_1 14 rfl rfl)
theorem dJ30_next_39 : decode cJ30_next 39 = .ok (.if_icmp .lt 11, 3) := dk_161 0 11 (dk_at dksJ30_next_1 15 rfl rfl)
theorem dJ30_next_42 : decode cJ30_next 42 = .ok (.new 41, 3) := dk_187 0 41 (dk_at dksJ30_next_1 18 rfl rfl)
theorem dJ30_next_45 : decode cJ30_next 45 = .ok (.dup, 1) := dk_89 (dk_at dksJ30_next_1 21 rfl rfl)
theorem dJ30_next_46 : decode cJ30_next 46 = .ok (.invokespecial 43, 3) := dk_183 0 43 (dk_at dksJ30_next_2 0 rfl rfl)
theorem dJ30_next_49 : decode cJ30_next 49 = .ok (.athrow, 1) := dk_191 (dk_at dksJ30_next_2 3 rfl rfl)
theorem dJ30_next_50 : decode cJ30_next 50 = .ok (.aload_n 0, 1) := dk_42 (dk_at dksJ30_next_2 4 rfl rfl)
theorem dJ30_next_51 : decode cJ30_next 51 = .ok (.iload_n 1, 1) := dk_27 (dk_at dksJ30_next_2 5 rfl rfl)
theorem dJ30_next_52 : decode cJ30_next 52 = .ok (.iconst 1, 1) := dk_4 (dk_at dksJ30_next_2 6 rfl rfl)
theorem dJ30_next_53 : decode cJ30_next 53 = .ok (.iadd, 1) := dk_96 (dk_at dksJ30_next_2 7 rfl rfl)
theorem dJ30_next_54 : decode cJ30_next 54 = .ok (.putfield 25, 3) := dk_181 0 25 (dk_at dksJ30_next_2 8 rfl rfl)
theorem dJ30_next_57 : decode cJ30_next 57 = .ok (.aload_n 2, 1) := dk_44 (dk_at dksJ30_next_2 11 rfl rfl)
theorem dJ30_next_58 : decode cJ30_next 58 = .ok (.aload_n 0, 1) := dk_42 (dk_at dksJ30_next_2 12 rfl rfl)
theorem dJ30_next_59 : decode cJ30_next 59 = .ok (.iload_n 1, 1) := dk_27 (dk_at dksJ30_next_2 13 rfl rfl)
theorem dJ30_next_60 : decode cJ30_next 60 = .ok (.dup_x1, 1) := dk_90 (dk_at dksJ30_next_2 14 rfl rfl)
theorem dJ30_next_61 : decode cJ30_next 61 = .ok (.putfield 13, 3) := dk_181 0 13 (dk_at dksJ30_next_2 15 rfl rfl)
theorem dJ30_next_64 : decode cJ30_next 64 = .ok (.aaload, 1) := dk_50 (dk_at dksJ30_next_2 18 rfl rfl)
theorem dJ30_next_65 : decode cJ30_next 65 = .ok (.areturn, 1) := dk_176 (dk_at dksJ30_next_2 19 rfl rfl)
abbrev cJ30_checkForComodification : ByteArray := prog_48_method_6_code
def yJ30_checkForComodification : MethodName := ⟨RJ30, "checkForComodification", "()V"⟩
def dkwJ30_checkForComodification_0 : List UInt8 := [42, 180, 0, 1, 180, 0, 17, 42, 180, 0, 22, 159, 0, 11, 187, 0, 41, 89, 183, 0, 43, 191, 177]
abbrev dktJ30_checkForComodification_0 : List UInt8 := dkwJ30_checkForComodification_0 ++ []
theorem dksJ30_checkForComodification_0 : cJ30_checkForComodification.data.toList.drop 0 = dktJ30_checkForComodification_0 := by decide +kernel
theorem dJ30_checkForComodification_0 : decode cJ30_checkForComodification 0 = .ok (.aload_n 0, 1) := dk_42 (dk_at dksJ30_checkForComodification_0 0 rfl rfl)
theorem dJ30_checkForComodification_1 : decode cJ30_checkForComodification 1 = .ok (.getfield 1, 3) := dk_180 0 1 (dk_at dksJ30_checkForComodification_0 1 rfl rfl)
theorem dJ30_checkForComodification_4 : decode cJ30_checkForComodification 4 = .ok (.getfield 17, 3) := dk_180 0 17 (dk_at dksJ30_checkForComodification_0 4 rfl rfl)
theorem dJ30_checkForComodification_7 : decode cJ30_checkForComodification 7 = .ok (.aload_n 0, 1) := dk_42 (dk_at dksJ30_checkForComodification_0 7 rfl rfl)
theorem dJ30_checkForComodification_8 : decode cJ30_checkForComodification 8 = .ok (.getfield 22, 3) := dk_180 0 22 (dk_at dksJ30_checkForComodification_0 8 rfl rfl)
theorem dJ30_checkForComodification_11 : decode cJ30_checkForComodification 11 = .ok (.if_icmp .eq 11, 3) := dk_159 0 11 (dk_at dksJ30_checkForComodification_0 11 rfl rfl)
theorem dJ30_checkForComodification_14 : decode cJ30_checkForComodification 14 = .ok (.new 41, 3) := dk_187 0 41 (dk_at dksJ30_checkForComodification_0 14 rfl rfl)
theorem dJ30_checkForComodification_17 : decode cJ30_checkForComodification 17 = .ok (.dup, 1) := dk_89 (dk_at dksJ30_checkForComodification_0 17 rfl rfl)
theorem dJ30_checkForComodification_18 : decode cJ30_checkForComodification 18 = .ok (.invokespecial 43, 3) := dk_183 0 43 (dk_at dksJ30_checkForComodification_0 18 rfl rfl)
theorem dJ30_checkForComodification_21 : decode cJ30_checkForComodification 21 = .ok (.athrow, 1) := dk_191 (dk_at dksJ30_checkForComodification_0 21 rfl rfl)
theorem dJ30_checkForComodification_22 : decode cJ30_checkForComodification 22 = .ok (.return_, 1) := dk_177 (dk_at dksJ30_checkForComodification_0 22 rfl rfl)
abbrev cJ30_init : ByteArray := prog_48_method_1_code
def yJ30_init : MethodName := ⟨RJ30, "<init>", "(Ljava/util/ArrayList;)V"⟩
def dkwJ30_init_1 : List UInt8 := [181, 0, 22, 177]
abbrev dktJ30_init_1 : List UInt8 := dkwJ30_init_1 ++ []
def dkwJ30_init_0 : List UInt8 := [42, 43, 181, 0, 1, 42, 183, 0, 7, 42, 2, 181, 0, 13, 42, 42, 180, 0, 1, 180, 0, 17]
abbrev dktJ30_init_0 : List UInt8 := dkwJ30_init_0 ++ dktJ30_init_1
theorem dksJ30_init_0 : cJ30_init.data.toList.drop 0 = dktJ30_init_0 := by decide +kernel
theorem dksJ30_init_1 : cJ30_init.data.toList.drop 22 = dktJ30_init_1 := dk_seg dksJ30_init_0 22 rfl rfl
theorem dJ30_init_0 : decode cJ30_init 0 = .ok (.aload_n 0, 1) := dk_42 (dk_at dksJ30_init_0 0 rfl rfl)
theorem dJ30_init_1 : decode cJ30_init 1 = .ok (.aload_n 1, 1) := dk_43 (dk_at dksJ30_init_0 1 rfl rfl)
theorem dJ30_init_2 : decode cJ30_init 2 = .ok (.putfield 1, 3) := dk_181 0 1 (dk_at dksJ30_init_0 2 rfl rfl)
theorem dJ30_init_5 : decode cJ30_init 5 = .ok (.aload_n 0, 1) := dk_42 (dk_at dksJ30_init_0 5 rfl rfl)
theorem dJ30_init_6 : decode cJ30_init 6 = .ok (.invokespecial 7, 3) := dk_183 0 7 (dk_at dksJ30_init_0 6 rfl rfl)
theorem dJ30_init_9 : decode cJ30_init 9 = .ok (.aload_n 0, 1) := dk_42 (dk_at dksJ30_init_0 9 rfl rfl)
theorem dJ30_init_10 : decode cJ30_init 10 = .ok (.iconst (-1), 1) := dk_2 (dk_at dksJ30_init_0 10 rfl rfl)
theorem dJ30_init_11 : decode cJ30_init 11 = .ok (.putfield 13, 3) := dk_181 0 13 (dk_at dksJ30_init_0 11 rfl rfl)
theorem dJ30_init_14 : decode cJ30_init 14 = .ok (.aload_n 0, 1) := dk_42 (dk_at dksJ30_init_0 14 rfl rfl)
theorem dJ30_init_15 : decode cJ30_init 15 = .ok (.aload_n 0, 1) := dk_42 (dk_at dksJ30_init_0 15 rfl rfl)
theorem dJ30_init_16 : decode cJ30_init 16 = .ok (.getfield 1, 3) := dk_180 0 1 (dk_at dksJ30_init_0 16 rfl rfl)
theorem dJ30_init_19 : decode cJ30_init 19 = .ok (.getfield 17, 3) := dk_180 0 17 (dk_at dksJ30_init_0 19 rfl rfl)
theorem dJ30_init_22 : decode cJ30_init 22 = .ok (.putfield 22, 3) := dk_181 0 22 (dk_at dksJ30_init_1 0 rfl rfl)
theorem dJ30_init_25 : decode cJ30_init 25 = .ok (.return_, 1) := dk_177 (dk_at dksJ30_init_1 3 rfl rfl)
theorem q137 : (Jvm.Cond.initialized "java/util/ArrayList$Itr") ∈ lw_all := lw_g (lw_at lw_m1 44 rfl) rfl
theorem q264 : (Jvm.Cond.fieldLink "java/util/ArrayList$Itr" (37 : Nat) "java/util/ArrayList" "elementData" "[Ljava/lang/Object;") ∈ lw_all := lw_g (lw_at lw_m1 171 rfl) rfl
theorem q265 : (Jvm.Cond.fieldLinkNest "java/util/ArrayList$Itr" (28 : Nat) "java/util/ArrayList" "size" "I" "java/util/ArrayList") ∈ lw_tbl := lw_at lw_m1 172 rfl
theorem q268 : (Jvm.Cond.fieldLink "java/util/ArrayList$Itr" (17 : Nat) "java/util/ArrayList" "modCount" "I") ∈ lw_all := lw_g (lw_at lw_m1 175 rfl) rfl
theorem q854 : (Jvm.Cond.castable "java/util/ArrayList$Itr" "java/util/Iterator") ∈ lw_tbl := lw_at lw_m4 41 rfl
theorem q855 : (Jvm.Cond.selects "java/util/ArrayList$Itr" ({ cls := "java/util/Iterator", name := "hasNext", desc := "()Z" } : Jvm.MethodName) ({ cls := "java/util/ArrayList$Itr", name := "hasNext", desc := "()Z" } : Jvm.MethodName)) ∈ lw_all := lw_g (lw_at lw_m4 42 rfl) rfl
theorem q856 : (Jvm.Cond.unhidden "java/util/ArrayList$Itr" "hasNext" "()Z") ∈ lw_tbl := lw_at lw_m4 43 rfl
theorem q857 : (Jvm.Cond.instanceMethod ({ cls := "java/util/ArrayList$Itr", name := "hasNext", desc := "()Z" } : Jvm.MethodName)) ∈ lw_all := lw_g (lw_at lw_m4 44 rfl) rfl
theorem q858 : (Jvm.Cond.publicMethod ({ cls := "java/util/ArrayList$Itr", name := "hasNext", desc := "()Z" } : Jvm.MethodName)) ∈ lw_tbl := lw_at lw_m4 45 rfl
theorem q859 : (Jvm.Cond.code ({ cls := "java/util/ArrayList$Itr", name := "hasNext", desc := "()Z" } : Jvm.MethodName) prog_48_method_2_code (1 : Nat) (Option.some Jvm.ClassFile.FieldType.boolean)) ∈ lw_all := lw_g (lw_at lw_m4 46 rfl) rfl
theorem q892 : (Jvm.Cond.selects "java/util/ArrayList$Itr" ({ cls := "java/util/Iterator", name := "next", desc := "()Ljava/lang/Object;" } : Jvm.MethodName) ({ cls := "java/util/ArrayList$Itr", name := "next", desc := "()Ljava/lang/Object;" } : Jvm.MethodName)) ∈ lw_all := lw_g (lw_at lw_m4 79 rfl) rfl
theorem q893 : (Jvm.Cond.unhidden "java/util/ArrayList$Itr" "next" "()Ljava/lang/Object;") ∈ lw_tbl := lw_at lw_m4 80 rfl
theorem q894 : (Jvm.Cond.instanceMethod ({ cls := "java/util/ArrayList$Itr", name := "next", desc := "()Ljava/lang/Object;" } : Jvm.MethodName)) ∈ lw_all := lw_g (lw_at lw_m4 81 rfl) rfl
theorem q895 : (Jvm.Cond.publicMethod ({ cls := "java/util/ArrayList$Itr", name := "next", desc := "()Ljava/lang/Object;" } : Jvm.MethodName)) ∈ lw_tbl := lw_at lw_m4 82 rfl
theorem q896 : (Jvm.Cond.code ({ cls := "java/util/ArrayList$Itr", name := "next", desc := "()Ljava/lang/Object;" } : Jvm.MethodName) prog_48_method_3_code (3 : Nat) (Option.some (Jvm.ClassFile.FieldType.object "java/lang/Object"))) ∈ lw_all := lw_g (lw_at lw_m4 83 rfl) rfl
theorem q897 : (Jvm.Cond.methodLink "java/util/ArrayList$Itr" (31 : Nat) ({ cls := "java/util/ArrayList$Itr", name := "checkForComodification", desc := "()V" } : Jvm.MethodName)) ∈ lw_all := lw_g (lw_at lw_m4 84 rfl) rfl
theorem q898 : (Jvm.Cond.instanceMethod ({ cls := "java/util/ArrayList$Itr", name := "checkForComodification", desc := "()V" } : Jvm.MethodName)) ∈ lw_all := lw_g (lw_at lw_m4 85 rfl) rfl
theorem q899 : (Jvm.Cond.selects "java/util/ArrayList$Itr" ({ cls := "java/util/ArrayList$Itr", name := "checkForComodification", desc := "()V" } : Jvm.MethodName) ({ cls := "java/util/ArrayList$Itr", name := "checkForComodification", desc := "()V" } : Jvm.MethodName)) ∈ lw_all := lw_g (lw_at lw_m4 86 rfl) rfl
theorem q900 : (Jvm.Cond.code ({ cls := "java/util/ArrayList$Itr", name := "checkForComodification", desc := "()V" } : Jvm.MethodName) prog_48_method_6_code (1 : Nat) (Option.none : Option Jvm.ClassFile.FieldType)) ∈ lw_all := lw_g (lw_at lw_m4 87 rfl) rfl
theorem q1446 : (Jvm.Cond.selects "java/util/ArrayList$Itr" ({ cls := "java/lang/Object", name := "getClass", desc := "()Ljava/lang/Class;" } : Jvm.MethodName) ({ cls := "java/lang/Object", name := "getClass", desc := "()Ljava/lang/Class;" } : Jvm.MethodName)) ∈ lw_all := lw_g (lw_at lw_m6 153 rfl) rfl
theorem q1494 : (Jvm.Cond.instantiable "java/util/ArrayList$Itr" (4 : Nat)) ∈ lw_all := lw_g (lw_at lw_m6 201 rfl) rfl
theorem q1496 : (Jvm.Cond.instanceMethod ({ cls := "java/util/ArrayList$Itr", name := "<init>", desc := "(Ljava/util/ArrayList;)V" } : Jvm.MethodName)) ∈ lw_all := lw_g (lw_at lw_m6 203 rfl) rfl
theorem q1497 : (Jvm.Cond.code ({ cls := "java/util/ArrayList$Itr", name := "<init>", desc := "(Ljava/util/ArrayList;)V" } : Jvm.MethodName) prog_48_method_1_code (2 : Nat) (Option.none : Option Jvm.ClassFile.FieldType)) ∈ lw_all := lw_g (lw_at lw_m6 204 rfl) rfl
theorem q1498 : (Jvm.Cond.methodLink "java/util/ArrayList$Itr" (7 : Nat) ({ cls := "java/lang/Object", name := "<init>", desc := "()V" } : Jvm.MethodName)) ∈ lw_all := lw_g (lw_at lw_m6 205 rfl) rfl
theorem q1499 : (Jvm.Cond.fieldLink "java/util/ArrayList$Itr" (25 : Nat) "java/util/ArrayList$Itr" "cursor" "I") ∈ lw_all := lw_g (lw_at lw_m6 206 rfl) rfl
theorem q1500 : (Jvm.Cond.fieldLink "java/util/ArrayList$Itr" (13 : Nat) "java/util/ArrayList$Itr" "lastRet" "I") ∈ lw_all := lw_g (lw_at lw_m6 207 rfl) rfl
theorem q1501 : (Jvm.Cond.fieldLink "java/util/ArrayList$Itr" (22 : Nat) "java/util/ArrayList$Itr" "expectedModCount" "I") ∈ lw_all := lw_g (lw_at lw_m6 208 rfl) rfl
theorem q1502 : (Jvm.Cond.fieldLink "java/util/ArrayList$Itr" (1 : Nat) "java/util/ArrayList$Itr" "this$0" "Ljava/util/ArrayList;") ∈ lw_all := lw_g (lw_at lw_m6 209 rfl) rfl
theorem q1503 : (Jvm.Cond.lays "java/util/ArrayList$Itr" "java/util/ArrayList$Itr" "cursor" "I") ∈ lw_all := lw_g (lw_at lw_m6 210 rfl) rfl
theorem q1504 : (Jvm.Cond.soleField "java/util/ArrayList$Itr" "cursor") ∈ lw_all := lw_g (lw_at lw_m6 211 rfl) rfl
theorem q1505 : (Jvm.Cond.lays "java/util/ArrayList$Itr" "java/util/ArrayList$Itr" "lastRet" "I") ∈ lw_all := lw_g (lw_at lw_m6 212 rfl) rfl
theorem q1506 : (Jvm.Cond.soleField "java/util/ArrayList$Itr" "lastRet") ∈ lw_all := lw_g (lw_at lw_m6 213 rfl) rfl
theorem q1507 : (Jvm.Cond.lays "java/util/ArrayList$Itr" "java/util/ArrayList$Itr" "expectedModCount" "I") ∈ lw_all := lw_g (lw_at lw_m6 214 rfl) rfl
theorem q1508 : (Jvm.Cond.soleField "java/util/ArrayList$Itr" "expectedModCount") ∈ lw_all := lw_g (lw_at lw_m6 215 rfl) rfl
theorem q1509 : (Jvm.Cond.laysFinal "java/util/ArrayList$Itr" "java/util/ArrayList$Itr" "this$0" "Ljava/util/ArrayList;") ∈ lw_all := lw_g (lw_at lw_m6 216 rfl) rfl
theorem q1510 : (Jvm.Cond.soleField "java/util/ArrayList$Itr" "this$0") ∈ lw_all := lw_g (lw_at lw_m6 217 rfl) rfl
theorem q1511 : (Jvm.Cond.superclass "java/util/ArrayList$Itr" "java/lang/Object") ∈ lw_all := lw_g (lw_at lw_m6 218 rfl) rfl
theorem q3123 : (Jvm.Cond.castable "java/util/ArrayList$Itr" "java/lang/Object") ∈ lw_tbl := lw_at lw_m13 150 rfl
theorem in_J30 : ∀ w ∈ wsJ300, w ∈ lw_all := lw_in wsJ300 [1503, 1505, 1507, 1509] (by decide +kernel) (by decide +kernel)

/-! java/lang/Object -/
set_option maxRecDepth 100000
def RJ42 : String := "java/lang/Object"
abbrev cJ42_init : ByteArray := object_method_1_code
def yJ42_init : MethodName := ⟨RJ42, "<init>", "()V"⟩
theorem dJ42_init_0 : decode cJ42_init 0 = .ok (.return_, 1) := by decide +kernel
abbrev cJ42_equals : ByteArray := object_method_4_code
def yJ42_equals : MethodName := ⟨RJ42, "equals", "(Ljava/lang/Object;)Z"⟩
def dkwJ42_equals_0 : List UInt8 := [42, 43, 166, 0, 7, 4, 167, 0, 4, 3, 172]
abbrev dktJ42_equals_0 : List UInt8 := dkwJ42_equals_0 ++ []
theorem dksJ42_equals_0 : cJ42_equals.data.toList.drop 0 = dktJ42_equals_0 := by decide +kernel
theorem dJ42_equals_0 : decode cJ42_equals 0 = .ok (.aload_n 0, 1) := dk_42 (dk_at dksJ42_equals_0 0 rfl rfl)
theorem dJ42_equals_1 : decode cJ42_equals 1 = .ok (.aload_n 1, 1) := dk_43 (dk_at dksJ42_equals_0 1 rfl rfl)
theorem dJ42_equals_2 : decode cJ42_equals 2 = .ok (.if_acmp .ne 7, 3) := dk_166 0 7 (dk_at dksJ42_equals_0 2 rfl rfl)
theorem dJ42_equals_5 : decode cJ42_equals 5 = .ok (.iconst 1, 1) := dk_4 (dk_at dksJ42_equals_0 5 rfl rfl)
theorem dJ42_equals_6 : decode cJ42_equals 6 = .ok (.goto 4, 3) := dk_167 0 4 (dk_at dksJ42_equals_0 6 rfl rfl)
theorem dJ42_equals_9 : decode cJ42_equals 9 = .ok (.iconst 0, 1) := dk_3 (dk_at dksJ42_equals_0 9 rfl rfl)
theorem dJ42_equals_10 : decode cJ42_equals 10 = .ok (.ireturn, 1) := dk_172 (dk_at dksJ42_equals_0 10 rfl rfl)
theorem q163 : (Jvm.Cond.instanceMethod ({ cls := "java/lang/Object", name := "<init>", desc := "()V" } : Jvm.MethodName)) ∈ lw_all := lw_g (lw_at lw_m1 70 rfl) rfl
theorem q164 : (Jvm.Cond.code ({ cls := "java/lang/Object", name := "<init>", desc := "()V" } : Jvm.MethodName) object_method_1_code (1 : Nat) (Option.none : Option Jvm.ClassFile.FieldType)) ∈ lw_all := lw_g (lw_at lw_m1 71 rfl) rfl
theorem q399 : (Jvm.Cond.native ({ cls := "java/lang/Object", name := "clone", desc := "()Ljava/lang/Object;" } : Jvm.MethodName)) ∈ lw_all := lw_g (lw_at lw_m2 66 rfl) rfl
theorem q400 : (Jvm.Cond.instanceMethod ({ cls := "java/lang/Object", name := "clone", desc := "()Ljava/lang/Object;" } : Jvm.MethodName)) ∈ lw_all := lw_g (lw_at lw_m2 67 rfl) rfl
theorem q1425 : (Jvm.Cond.instanceMethod ({ cls := "java/lang/Object", name := "getClass", desc := "()Ljava/lang/Class;" } : Jvm.MethodName)) ∈ lw_all := lw_g (lw_at lw_m6 132 rfl) rfl
theorem q1426 : (Jvm.Cond.sameMethod "java/lang/Object" "java/lang/Object" "getClass" "()Ljava/lang/Class;") ∈ lw_all := lw_g (lw_at lw_m6 133 rfl) rfl
theorem q1461 : (Jvm.Cond.native ({ cls := "java/lang/Object", name := "getClass", desc := "()Ljava/lang/Class;" } : Jvm.MethodName)) ∈ lw_all := lw_g (lw_at lw_m6 168 rfl) rfl
theorem q1668 : (Jvm.Cond.declares ({ cls := "java/lang/Object", name := "equals", desc := "(Ljava/lang/Object;)Z" } : Jvm.MethodName)) ∈ lw_tbl := lw_at lw_m7 135 rfl
theorem q1670 : (Jvm.Cond.instanceMethod ({ cls := "java/lang/Object", name := "equals", desc := "(Ljava/lang/Object;)Z" } : Jvm.MethodName)) ∈ lw_all := lw_g (lw_at lw_m7 137 rfl) rfl
theorem q1671 : (Jvm.Cond.sameMethod "java/lang/Object" "java/lang/Object" "equals" "(Ljava/lang/Object;)Z") ∈ lw_all := lw_g (lw_at lw_m7 138 rfl) rfl
theorem q1702 : (Jvm.Cond.code ({ cls := "java/lang/Object", name := "equals", desc := "(Ljava/lang/Object;)Z" } : Jvm.MethodName) object_method_4_code (2 : Nat) (Option.some Jvm.ClassFile.FieldType.boolean)) ∈ lw_all := lw_g (lw_at lw_m7 169 rfl) rfl
theorem q2484 : (Jvm.Cond.declares ({ cls := "java/lang/Object", name := "getClass", desc := "()Ljava/lang/Class;" } : Jvm.MethodName)) ∈ lw_tbl := lw_at lw_m10 231 rfl
theorem q2486 : (Jvm.Cond.publicMethod ({ cls := "java/lang/Object", name := "getClass", desc := "()Ljava/lang/Class;" } : Jvm.MethodName)) ∈ lw_tbl := lw_at lw_m10 233 rfl
theorem q3103 : (Jvm.Cond.initialized "java/lang/Object") ∈ lw_all := lw_g (lw_at lw_m13 130 rfl) rfl

/-! jdk/internal/util/ArraysSupport -/
set_option maxRecDepth 100000
def RJ12 : String := "jdk/internal/util/ArraysSupport"
abbrev cJ12_mismatch : ByteArray := prog_87_method_13_code
def yJ12_mismatch : MethodName := ⟨RJ12, "mismatch", "([B[BI)I"⟩
def dkwJ12_mismatch_3 : List UInt8 := [172]
abbrev dktJ12_mismatch_3 : List UInt8 := dkwJ12_mismatch_3 ++ []
def dkwJ12_mismatch_2 : List UInt8 := [62, 29, 28, 162, 0, 20, 42, 29, 51, 43, 29, 51, 159, 0, 5, 29, 172, 132, 3, 1, 167, 255, 237, 2]
abbrev dktJ12_mismatch_2 : List UInt8 := dkwJ12_mismatch_2 ++ dktJ12_mismatch_3
def dkwJ12_mismatch_1 : List UInt8 := [43, 178, 0, 126, 133, 28, 178, 0, 129, 184, 0, 122, 62, 29, 155, 0, 5, 29, 172, 28, 29, 2, 130, 100]
abbrev dktJ12_mismatch_1 : List UInt8 := dkwJ12_mismatch_1 ++ dktJ12_mismatch_2
def dkwJ12_mismatch_0 : List UInt8 := [3, 62, 28, 16, 7, 164, 0, 44, 42, 3, 51, 43, 3, 51, 159, 0, 5, 3, 172, 42, 178, 0, 126, 133]
abbrev dktJ12_mismatch_0 : List UInt8 := dkwJ12_mismatch_0 ++ dktJ12_mismatch_1
theorem dksJ12_mismatch_0 : cJ12_mismatch.data.toList.drop 0 = dktJ12_mismatch_0 := by decide +kernel
theorem dksJ12_mismatch_1 : cJ12_mismatch.data.toList.drop 24 = dktJ12_mismatch_1 := dk_seg dksJ12_mismatch_0 24 rfl rfl
theorem dksJ12_mismatch_2 : cJ12_mismatch.data.toList.drop 48 = dktJ12_mismatch_2 := dk_seg dksJ12_mismatch_1 24 rfl rfl
theorem dksJ12_mismatch_3 : cJ12_mismatch.data.toList.drop 72 = dktJ12_mismatch_3 := dk_seg dksJ12_mismatch_2 24 rfl rfl
theorem dJ12_mismatch_0 : decode cJ12_mismatch 0 = .ok (.iconst 0, 1) := dk_3 (dk_at dksJ12_mismatch_0 0 rfl rfl)
theorem dJ12_mismatch_1 : decode cJ12_mismatch 1 = .ok (.istore_n 3, 1) := dk_62 (dk_at dksJ12_mismatch_0 1 rfl rfl)
theorem dJ12_mismatch_2 : decode cJ12_mismatch 2 = .ok (.iload_n 2, 1) := dk_28 (dk_at dksJ12_mismatch_0 2 rfl rfl)
theorem dJ12_mismatch_3 : decode cJ12_mismatch 3 = .ok (.bipush 7, 2) := dk_16 7 (dk_at dksJ12_mismatch_0 3 rfl rfl)
theorem dJ12_mismatch_5 : decode cJ12_mismatch 5 = .ok (.if_icmp .le 44, 3) := dk_164 0 44 (dk_at dksJ12_mismatch_0 5 rfl rfl)
theorem dJ12_mismatch_8 : decode cJ12_mismatch 8 = .ok (.aload_n 0, 1) := dk_42 (dk_at dksJ12_mismatch_0 8 rfl rfl)
theorem dJ12_mismatch_9 : decode cJ12_mismatch 9 = .ok (.iconst 0, 1) := dk_3 (dk_at dksJ12_mismatch_0 9 rfl rfl)
theorem dJ12_mismatch_10 : decode cJ12_mismatch 10 = .ok (.baload, 1) := dk_51 (dk_at dksJ12_mismatch_0 10 rfl rfl)
theorem dJ12_mismatch_11 : decode cJ12_mismatch 11 = .ok (.aload_n 1, 1) := dk_43 (dk_at dksJ12_mismatch_0 11 rfl rfl)
theorem dJ12_mismatch_12 : decode cJ12_mismatch 12 = .ok (.iconst 0, 1) := dk_3 (dk_at dksJ12_mismatch_0 12 rfl rfl)
theorem dJ12_mismatch_13 : decode cJ12_mismatch 13 = .ok (.baload, 1) := dk_51 (dk_at dksJ12_mismatch_0 13 rfl rfl)
theorem dJ12_mismatch_14 : decode cJ12_mismatch 14 = .ok (.if_icmp .eq 5, 3) := dk_159 0 5 (dk_at dksJ12_mismatch_0 14 rfl rfl)
theorem dJ12_mismatch_17 : decode cJ12_mismatch 17 = .ok (.iconst 0, 1) := dk_3 (dk_at dksJ12_mismatch_0 17 rfl rfl)
theorem dJ12_mismatch_18 : decode cJ12_mismatch 18 = .ok (.ireturn, 1) := dk_172 (dk_at dksJ12_mismatch_0 18 rfl rfl)
theorem dJ12_mismatch_19 : decode cJ12_mismatch 19 = .ok (.aload_n 0, 1) := dk_42 (dk_at dksJ12_mismatch_0 19 rfl rfl)
theorem dJ12_mismatch_20 : decode cJ12_mismatch 20 = .ok (.getstatic 126, 3) := dk_178 0 126 (dk_at dksJ12_mismatch_0 20 rfl rfl)
theorem dJ12_mismatch_23 : decode cJ12_mismatch 23 = .ok (.i2l, 1) := dk_133 (dk_at dksJ12_mismatch_0 23 rfl rfl)
theorem dJ12_mismatch_24 : decode cJ12_mismatch 24 = .ok (.aload_n 1, 1) := dk_43 (dk_at dksJ12_mismatch_1 0 rfl rfl)
theorem dJ12_mismatch_25 : decode cJ12_mismatch 25 = .ok (.getstatic 126, 3) := dk_178 0 126 (dk_at dksJ12_mismatch_1 1 rfl rfl)
theorem dJ12_mismatch_28 : decode cJ12_mismatch 28 = .ok (.i2l, 1) := dk_133 (dk_at dksJ12_mismatch_1 4 rfl rfl)
theorem dJ12_mismatch_29 : decode cJ12_mismatch 29 = .ok (.iload_n 2, 1) := dk_28 (dk_at dksJ12_mismatch_1 5 rfl rfl)
theorem dJ12_mismatch_30 : decode cJ12_mismatch 30 = .ok (.getstatic 129, 3) := dk_178 0 129 (dk_at dksJ12_mismatch_1 6 rfl rfl)
theorem dJ12_mismatch_33 : decode cJ12_mismatch 33 = .ok (.invokestatic 122, 3) := dk_184 0 122 (dk_at dksJ12_mismatch_1 9 rfl rfl)
theorem dJ12_mismatch_36 : decode cJ12_mismatch 36 = .ok (.istore_n 3, 1) := dk_62 (dk_at dksJ12_mismatch_1 12 rfl rfl)
theorem dJ12_mismatch_37 : decode cJ12_mismatch 37 = .ok (.iload_n 3, 1) := dk_29 (dk_at dksJ12_mismatch_1 13 rfl rfl)
theorem dJ12_mismatch_38 : decode cJ12_mismatch 38 = .ok (.ifCond .lt 5, 3) := dk_155 0 5 (dk_at dksJ12_mismatch_1 14 rfl rfl)
theorem dJ12_mismatch_41 : decode cJ12_mismatch 41 = .ok (.iload_n 3, 1) := dk_29 (dk_at dksJ12_mismatch_1 17 rfl rfl)
theorem dJ12_mismatch_42 : decode cJ12_mismatch 42 = .ok (.ireturn, 1) := dk_172 (dk_at dksJ12_mismatch_1 18 rfl rfl)
theorem dJ12_mismatch_43 : decode cJ12_mismatch 43 = .ok (.iload_n 2, 1) := dk_28 (dk_at dksJ12_mismatch_1 19 rfl rfl)
theorem dJ12_mismatch_44 : decode cJ12_mismatch 44 = .ok (.iload_n 3, 1) := dk_29 (dk_at dksJ12_mismatch_1 20 rfl rfl)
theorem dJ12_mismatch_45 : decode cJ12_mismatch 45 = .ok (.iconst (-1), 1) := dk_2 (dk_at dksJ12_mismatch_1 21 rfl rfl)
theorem dJ12_mismatch_46 : decode cJ12_mismatch 46 = .ok (.ixor, 1) := dk_130 (dk_at dksJ12_mismatch_1 22 rfl rfl)
theorem dJ12_mismatch_47 : decode cJ12_mismatch 47 = .ok (.isub, 1) := dk_100 (dk_at dksJ12_mismatch_1 23 rfl rfl)
theorem dJ12_mismatch_48 : decode cJ12_mismatch 48 = .ok (.istore_n 3, 1) := dk_62 (dk_at dksJ12_mismatch_2 0 rfl rfl)
theorem dJ12_mismatch_49 : decode cJ12_mismatch 49 = .ok (.iload_n 3, 1) := dk_29 (dk_at dksJ12_mismatch_2 1 rfl rfl)
theorem dJ12_mismatch_50 : decode cJ12_mismatch 50 = .ok (.iload_n 2, 1) := dk_28 (dk_at dksJ12_mismatch_2 2 rfl rfl)
theorem dJ12_mismatch_51 : decode cJ12_mismatch 51 = .ok (.if_icmp .ge 20, 3) := dk_162 0 20 (dk_at dksJ12_mismatch_2 3 rfl rfl)
theorem dJ12_mismatch_54 : decode cJ12_mismatch 54 = .ok (.aload_n 0, 1) := dk_42 (dk_at dksJ12_mismatch_2 6 rfl rfl)
theorem dJ12_mismatch_55 : decode cJ12_mismatch 55 = .ok (.iload_n 3, 1) := dk_29 (dk_at dksJ12_mismatch_2 7 rfl rfl)
theorem dJ12_mismatch_56 : decode cJ12_mismatch 56 = .ok (.baload, 1) := dk_51 (dk_at dksJ12_mismatch_2 8 rfl rfl)
theorem dJ12_mismatch_57 : decode cJ12_mismatch 57 = .ok (.aload_n 1, 1) := dk_43 (dk_at dksJ12_mismatch_2 9 rfl rfl)
theorem dJ12_mismatch_58 : decode cJ12_mismatch 58 = .ok (.iload_n 3, 1) := dk_29 (dk_at dksJ12_mismatch_2 10 rfl rfl)
theorem dJ12_mismatch_59 : decode cJ12_mismatch 59 = .ok (.baload, 1) := dk_51 (dk_at dksJ12_mismatch_2 11 rfl rfl)
theorem dJ12_mismatch_60 : decode cJ12_mismatch 60 = .ok (.if_icmp .eq 5, 3) := dk_159 0 5 (dk_at dksJ12_mismatch_2 12 rfl rfl)
theorem dJ12_mismatch_63 : decode cJ12_mismatch 63 = .ok (.iload_n 3, 1) := dk_29 (dk_at dksJ12_mismatch_2 15 rfl rfl)
theorem dJ12_mismatch_64 : decode cJ12_mismatch 64 = .ok (.ireturn, 1) := dk_172 (dk_at dksJ12_mismatch_2 16 rfl rfl)
theorem dJ12_mismatch_65 : decode cJ12_mismatch 65 = .ok (.iinc 3 1, 3) := dk_132 3 1 (dk_at dksJ12_mismatch_2 17 rfl rfl)
theorem dJ12_mismatch_68 : decode cJ12_mismatch 68 = .ok (.goto (-19), 3) := dk_167 255 237 (dk_at dksJ12_mismatch_2 20 rfl rfl)
theorem dJ12_mismatch_71 : decode cJ12_mismatch 71 = .ok (.iconst (-1), 1) := dk_2 (dk_at dksJ12_mismatch_2 23 rfl rfl)
theorem dJ12_mismatch_72 : decode cJ12_mismatch 72 = .ok (.ireturn, 1) := dk_172 (dk_at dksJ12_mismatch_3 0 rfl rfl)
abbrev cJ12_vectorizedMismatch : ByteArray := prog_87_method_3_code
def yJ12_vectorizedMismatch : MethodName := ⟨RJ12, "vectorizedMismatch", "(Ljava/lang/Object;JLjava/lang/Object;JII)I"⟩
def dkwJ12_vectorizedMismatch_11 : List UInt8 := [54, 10, 21, 10, 2, 130, 172, 21, 10, 2, 130, 172]
abbrev dktJ12_vectorizedMismatch_11 : List UInt8 := dkwJ12_vectorizedMismatch_11 ++ []
def dkwJ12_vectorizedMismatch_10 : List UInt8 := [178, 0, 46, 21, 7, 96, 122, 54, 17, 21, 9, 21, 8, 120, 21, 17, 96, 172, 21, 10, 21, 11, 100]
abbrev dktJ12_vectorizedMismatch_10 : List UInt8 := dkwJ12_vectorizedMismatch_10 ++ dktJ12_vectorizedMismatch_11
def dkwJ12_vectorizedMismatch_9 : List UInt8 := [153, 0, 18, 21, 16, 184, 0, 58, 178, 0, 46, 21, 7, 96, 122, 167, 0, 15, 21, 16, 184, 0, 11]
abbrev dktJ12_vectorizedMismatch_9 : List UInt8 := dkwJ12_vectorizedMismatch_9 ++ dktJ12_vectorizedMismatch_10
def dkwJ12_vectorizedMismatch_8 : List UInt8 := [182, 0, 54, 54, 15, 21, 14, 21, 15, 159, 0, 54, 21, 14, 21, 15, 130, 54, 16, 178, 0, 36]
abbrev dktJ12_vectorizedMismatch_8 : List UInt8 := dkwJ12_vectorizedMismatch_8 ++ dktJ12_vectorizedMismatch_9
def dkwJ12_vectorizedMismatch_7 : List UInt8 := [55, 12, 178, 0, 26, 42, 31, 22, 12, 97, 182, 0, 54, 54, 14, 178, 0, 26, 45, 22, 4, 22, 12, 97]
abbrev dktJ12_vectorizedMismatch_7 : List UInt8 := dkwJ12_vectorizedMismatch_7 ++ dktJ12_vectorizedMismatch_8
def dkwJ12_vectorizedMismatch_6 : List UInt8 := [4, 178, 0, 51, 21, 7, 100, 120, 54, 11, 21, 10, 21, 11, 161, 0, 104, 21, 9, 133, 178, 0, 20, 121]
abbrev dktJ12_vectorizedMismatch_6 : List UInt8 := dkwJ12_vectorizedMismatch_6 ++ dktJ12_vectorizedMismatch_7
def dkwJ12_vectorizedMismatch_5 : List UInt8 := [132, 9, 1, 167, 255, 148, 21, 6, 21, 9, 21, 8, 120, 100, 54, 10, 21, 7, 178, 0, 51, 162, 0, 126]
abbrev dktJ12_vectorizedMismatch_5 : List UInt8 := dkwJ12_vectorizedMismatch_5 ++ dktJ12_vectorizedMismatch_6
def dkwJ12_vectorizedMismatch_4 : List UInt8 := [22, 16, 184, 0, 49, 178, 0, 46, 21, 7, 96, 122, 54, 18, 21, 9, 21, 8, 120, 21, 18, 96, 172]
abbrev dktJ12_vectorizedMismatch_4 : List UInt8 := dkwJ12_vectorizedMismatch_4 ++ dktJ12_vectorizedMismatch_5
def dkwJ12_vectorizedMismatch_3 : List UInt8 := [55, 16, 178, 0, 36, 153, 0, 18, 22, 16, 184, 0, 40, 178, 0, 46, 21, 7, 96, 122, 167, 0, 15]
abbrev dktJ12_vectorizedMismatch_3 : List UInt8 := dkwJ12_vectorizedMismatch_3 ++ dktJ12_vectorizedMismatch_4
def dkwJ12_vectorizedMismatch_2 : List UInt8 := [22, 4, 22, 10, 97, 182, 0, 30, 55, 14, 22, 12, 22, 14, 148, 153, 0, 54, 22, 12, 22, 14, 131]
abbrev dktJ12_vectorizedMismatch_2 : List UInt8 := dkwJ12_vectorizedMismatch_2 ++ dktJ12_vectorizedMismatch_3
def dkwJ12_vectorizedMismatch_1 : List UInt8 := [178, 0, 20, 121, 55, 10, 178, 0, 26, 42, 31, 22, 10, 97, 182, 0, 30, 55, 12, 178, 0, 26, 45]
abbrev dktJ12_vectorizedMismatch_1 : List UInt8 := dkwJ12_vectorizedMismatch_1 ++ dktJ12_vectorizedMismatch_2
def dkwJ12_vectorizedMismatch_0 : List UInt8 := [178, 0, 20, 21, 7, 100, 54, 8, 3, 54, 9, 21, 9, 21, 6, 21, 8, 122, 162, 0, 104, 21, 9, 133]
abbrev dktJ12_vectorizedMismatch_0 : List UInt8 := dkwJ12_vectorizedMismatch_0 ++ dktJ12_vectorizedMismatch_1
theorem dksJ12_vectorizedMismatch_0 : cJ12_vectorizedMismatch.data.toList.drop 0 = dktJ12_vectorizedMismatch_0 := by decide +kernel
theorem dksJ12_vectorizedMismatch_1 : cJ12_vectorizedMismatch.data.toList.drop 24 = dktJ12_vectorizedMismatch_1 := dk_seg dksJ12_vectorizedMismatch_0 24 rfl rfl
theorem dksJ12_vectorizedMismatch_2 : cJ12_vectorizedMismatch.data.toList.drop 47 = dktJ12_vectorizedMismatch_2 := dk_seg dksJ12_vectorizedMismatch_1 23 rfl rfl
theorem dksJ12_vectorizedMismatch_3 : cJ12_vectorizedMismatch.data.toList.drop 70 = dktJ12_vectorizedMismatch_3 := dk_seg dksJ12_vectorizedMismatch_2 23 rfl rfl
theorem dksJ12_vectorizedMismatch_4 : cJ12_vectorizedMismatch.data.toList.drop 93 = dktJ12_vectorizedMismatch_4 := dk_seg dksJ12_vectorizedMismatch_3 23 rfl rfl
theorem dksJ12_vectorizedMismatch_5 : cJ12_vectorizedMismatch.data.toList.drop 116 = dktJ12_vectorizedMismatch_5 := dk_seg dksJ12_vectorizedMismatch_4 23 rfl rfl
theorem dksJ12_vectorizedMismatch_6 : cJ12_vectorizedMismatch.data.toList.drop 140 = dktJ12_vectorizedMismatch_6 := dk_seg dksJ12_vectorizedMismatch_5 24 rfl rfl
theorem dksJ12_vectorizedMismatch_7 : cJ12_vectorizedMismatch.data.toList.drop 164 = dktJ12_vectorizedMismatch_7 := dk_seg dksJ12_vectorizedMismatch_6 24 rfl rfl
theorem dksJ12_vectorizedMismatch_8 : cJ12_vectorizedMismatch.data.toList.drop 188 = dktJ12_vectorizedMismatch_8 := dk_seg dksJ12_vectorizedMismatch_7 24 rfl rfl
theorem dksJ12_vectorizedMismatch_9 : cJ12_vectorizedMismatch.data.toList.drop 210 = dktJ12_vectorizedMismatch_9 := dk_seg dksJ12_vectorizedMismatch_8 22 rfl rfl
theorem dksJ12_vectorizedMismatch_10 : cJ12_vectorizedMismatch.data.toList.drop 233 = dktJ12_vectorizedMismatch_10 := dk_seg dksJ12_vectorizedMismatch_9 23 rfl rfl
theorem dksJ12_vectorizedMismatch_11 : cJ12_vectorizedMismatch.data.toList.drop 256 = dktJ12_vectorizedMismatch_11 := dk_seg dksJ12_vectorizedMismatch_10 23 rfl rfl
theorem dJ12_vectorizedMismatch_0 : decode cJ12_vectorizedMismatch 0 = .ok (.getstatic 20, 3) := dk_178 0 20 (dk_at dksJ12_vectorizedMismatch_0 0 rfl rfl)
theorem dJ12_vectorizedMismatch_3 : decode cJ12_vectorizedMismatch 3 = .ok (.iload 7, 2) := dk_21 7 (dk_at dksJ12_vectorizedMismatch_0 3 rfl rfl)
theorem dJ12_vectorizedMismatch_5 : decode cJ12_vectorizedMismatch 5 = .ok (.isub, 1) := dk_100 (dk_at dksJ12_vectorizedMismatch_0 5 rfl rfl)
theorem dJ12_vectorizedMismatch_6 : decode cJ12_vectorizedMismatch 6 = .ok (.istore 8, 2) := dk_54 8 (dk_at dksJ12_vectorizedMismatch_0 6 rfl rfl)
theorem dJ12_vectorizedMismatch_8 : decode cJ12_vectorizedMismatch 8 = .ok (.iconst 0, 1) := dk_3 (dk_at dksJ12_vectorizedMismatch_0 8 rfl rfl)
theorem dJ12_vectorizedMismatch_9 : decode cJ12_vectorizedMismatch 9 = .ok (.istore 9, 2) := dk_54 9 (dk_at dksJ12_vectorizedMismatch_0 9 rfl rfl)
theorem dJ12_vectorizedMismatch_11 : decode cJ12_vectorizedMismatch 11 = .ok (.iload 9, 2) := dk_21 9 (dk_at dksJ12_vectorizedMismatch_0 11 rfl rfl)
theorem dJ12_vectorizedMismatch_13 : decode cJ12_vectorizedMismatch 13 = .ok (.iload 6, 2) := dk_21 6 (dk_at dksJ12_vectorizedMismatch_0 13 rfl rfl)
theorem dJ12_vectorizedMismatch_15 : decode cJ12_vectorizedMismatch 15 = .ok (.iload 8, 2) := dk_21 8 (dk_at dksJ12_vectorizedMismatch_0 15 rfl rfl)
theorem dJ12_vectorizedMismatch_17 : decode cJ12_vectorizedMismatch 17 = .ok (.ishr, 1) := dk_122 (dk_at dksJ12_vectorizedMismatch_0 17 rfl rfl)
theorem dJ12_vectorizedMismatch_18 : decode cJ12_vectorizedMismatch 18 = .ok (.if_icmp .ge 104, 3) := dk_162 0 104 (dk_at dksJ12_vectorizedMismatch_0 18 rfl rfl)
theorem dJ12_vectorizedMismatch_21 : decode cJ12_vectorizedMismatch 21 = .ok (.iload 9, 2) := dk_21 9 (dk_at dksJ12_vectorizedMismatch_0 21 rfl rfl)
theorem dJ12_vectorizedMismatch_23 : decode cJ12_vectorizedMismatch 23 = .ok (.i2l, 1) := dk_133 (dk_at dksJ12_vectorizedMismatch_0 23 rfl rfl)
theorem dJ12_vectorizedMismatch_24 : decode cJ12_vectorizedMismatch 24 = .ok (.getstatic 20, 3) := dk_178 0 20 (dk_at dksJ12_vectorizedMismatch_1 0 rfl rfl)
theorem dJ12_vectorizedMismatch_27 : decode cJ12_vectorizedMismatch 27 = .ok (.lshl, 1) := dk_121 (dk_at dksJ12_vectorizedMismatch_1 3 rfl rfl)
theorem dJ12_vectorizedMismatch_28 : decode cJ12_vectorizedMismatch 28 = .ok (.lstore 10, 2) := dk_55 10 (dk_at dksJ12_vectorizedMismatch_1 4 rfl rfl)
theorem dJ12_vectorizedMismatch_30 : decode cJ12_vectorizedMismatch 30 = .ok (.getstatic 26, 3) := dk_178 0 26 (dk_at dksJ12_vectorizedMismatch_1 6 rfl rfl)
theorem dJ12_vectorizedMismatch_33 : decode cJ12_vectorizedMismatch 33 = .ok (.aload_n 0, 1) := dk_42 (dk_at dksJ12_vectorizedMismatch_1 9 rfl rfl)
theorem dJ12_vectorizedMismatch_34 : decode cJ12_vectorizedMismatch 34 = .ok (.lload_n 1, 1) := dk_31 (dk_at dksJ12_vectorizedMismatch_1 10 rfl rfl)
theorem dJ12_vectorizedMismatch_35 : decode cJ12_vectorizedMismatch 35 = .ok (.lload 10, 2) := dk_22 10 (dk_at dksJ12_vectorizedMismatch_1 11 rfl rfl)
theorem dJ12_vectorizedMismatch_37 : decode cJ12_vectorizedMismatch 37 = .ok (.ladd, 1) := dk_97 (dk_at dksJ12_vectorizedMismatch_1 13 rfl rfl)
theorem dJ12_vectorizedMismatch_38 : decode cJ12_vectorizedMismatch 38 = .ok (.invokevirtual 30, 3) := dk_182 0 30 (dk_at dksJ12_vectorizedMismatch_1 14 rfl rfl)
theorem dJ12_vectorizedMismatch_41 : decode cJ12_vectorizedMismatch 41 = .ok (.lstore 12, 2) := dk_55 12 (dk_at dksJ12_vectorizedMismatch_1 17 rfl rfl)
theorem dJ12_vectorizedMismatch_43 : decode cJ12_vectorizedMismatch 43 = .ok (.getstatic 26, 3) := dk_178 0 26 (dk_at dksJ12_vectorizedMismatch_1 19 rfl rfl)
theorem dJ12_vectorizedMismatch_46 : decode cJ12_vectorizedMismatch 46 = .ok (.aload_n 3, 1) := dk_45 (dk_at dksJ12_vectorizedMismatch_1 22 rfl rfl)
theorem dJ12_vectorizedMismatch_47 : decode cJ12_vectorizedMismatch 47 = .ok (.lload 4, 2) := dk_22 4 (dk_at dksJ12_vectorizedMismatch_2 0 rfl rfl)
theorem dJ12_vectorizedMismatch_49 : decode cJ12_vectorizedMismatch 49 = .ok (.lload 10, 2) := dk_22 10 (dk_at dksJ12_vectorizedMismatch_2 2 rfl rfl)
theorem dJ12_vectorizedMismatch_51 : decode cJ12_vectorizedMismatch 51 = .ok (.ladd, 1) := dk_97 (dk_at dksJ12_vectorizedMismatch_2 4 rfl rfl)
theorem dJ12_vectorizedMismatch_52 : decode cJ12_vectorizedMismatch 52 = .ok (.invokevirtual 30, 3) := dk_182 0 30 (dk_at dksJ12_vectorizedMismatch_2 5 rfl rfl)
theorem dJ12_vectorizedMismatch_55 : decode cJ12_vectorizedMismatch 55 = .ok (.lstore 14, 2) := dk_55 14 (dk_at dksJ12_vectorizedMismatch_2 8 rfl rfl)
theorem dJ12_vectorizedMismatch_57 : decode cJ12_vectorizedMismatch 57 = .ok (.lload 12, 2) := dk_22 12 (dk_at dksJ12_vectorizedMismatch_2 10 rfl rfl)
theorem dJ12_vectorizedMismatch_59 : decode cJ12_vectorizedMismatch 59 = .ok (.lload 14, 2) := dk_22 14 (dk_at dksJ12_vectorizedMismatch_2 12 rfl rfl)
theorem dJ12_vectorizedMismatch_61 : decode cJ12_vectorizedMismatch 61 = .ok (.lcmp, 1) := dk_148 (dk_at dksJ12_vectorizedMismatch_2 14 rfl rfl)
theorem dJ12_vectorizedMismatch_62 : decode cJ12_vectorizedMismatch 62 = .ok (.ifCond .eq 54, 3) := dk_153 0 54 (dk_at dksJ12_vectorizedMismatch_2 15 rfl rfl)
theorem dJ12_vectorizedMismatch_65 : decode cJ12_vectorizedMismatch 65 = .ok (.lload 12, 2) := dk_22 12 (dk_at dksJ12_vectorizedMismatch_2 18 rfl rfl)
theorem dJ12_vectorizedMismatch_67 : decode cJ12_vectorizedMismatch 67 = .ok (.lload 14, 2) := dk_22 14 (dk_at dksJ12_vectorizedMismatch_2 20 rfl rfl)
theorem dJ12_vectorizedMismatch_69 : decode cJ12_vectorizedMismatch 69 = .ok (.lxor, 1) := dk_131 (dk_at dksJ12_vectorizedMismatch_2 22 rfl rfl)
theorem dJ12_vectorizedMismatch_70 : decode cJ12_vectorizedMismatch 70 = .ok (.lstore 16, 2) := dk_55 16 (dk_at dksJ12_vectorizedMismatch_3 0 rfl rfl)
theorem dJ12_vectorizedMismatch_72 : decode cJ12_vectorizedMismatch 72 = .ok (.getstatic 36, 3) := dk_178 0 36 (dk_at dksJ12_vectorizedMismatch_3 2 rfl rfl)
theorem dJ12_vectorizedMismatch_75 : decode cJ12_vectorizedMismatch 75 = .ok (.ifCond .eq 18, 3) := dk_153 0 18 (dk_at dksJ12_vectorizedMismatch_3 5 rfl rfl)
theorem dJ12_vectorizedMismatch_78 : decode cJ12_vectorizedMismatch 78 = .ok (.lload 16, 2) := dk_22 16 (dk_at dksJ12_vectorizedMismatch_3 8 rfl rfl)
theorem dJ12_vectorizedMismatch_80 : decode cJ12_vectorizedMismatch 80 = .ok (.invokestatic 40, 3) := dk_184 0 40 (dk_at dksJ12_vectorizedMismatch_3 10 rfl rfl)
theorem dJ12_vectorizedMismatch_83 : decode cJ12_vectorizedMismatch 83 = .ok (.getstatic 46, 3) := dk_178 0 46 (dk_at dksJ12_vectorizedMismatch_3 13 rfl rfl)
theorem dJ12_vectorizedMismatch_86 : decode cJ12_vectorizedMismatch 86 = .ok (.iload 7, 2) := dk_21 7 (dk_at dksJ12_vectorizedMismatch_3 16 rfl rfl)
theorem dJ12_vectorizedMismatch_88 : decode cJ12_vectorizedMismatch 88 = .ok (.iadd, 1) := dk_96 (dk_at dksJ12_vectorizedMismatch_3 18 rfl rfl)
theorem dJ12_vectorizedMismatch_89 : decode cJ12_vectorizedMismatch 89 = .ok (.ishr, 1) := dk_122 (dk_at dksJ12_vectorizedMismatch_3 19 rfl rfl)
theorem dJ12_vectorizedMismatch_90 : decode cJ12_vectorizedMismatch 90 = .ok (.goto 15, 3) := dk_167 0 15 (dk_at dksJ12_vectorizedMismatch_3 20 rfl rfl)
theorem dJ12_vectorizedMismatch_93 : decode cJ12_vectorizedMismatch 93 = .ok (.lload 16, 2) := dk_22 16 (dk_at dksJ12_vectorizedMismatch_4 0 rfl rfl)
theorem dJ12_vectorizedMismatch_95 : decode cJ12_vectorizedMismatch 95 = .ok (.invokestatic 49, 3) := dk_184 0 49 (dk_at dksJ12_vectorizedMismatch_4 2 rfl rfl)
theorem dJ12_vectorizedMismatch_98 : decode cJ12_vectorizedMismatch 98 = .ok (.getstatic 46, 3) := dk_178 0 46 (dk_at dksJ12_vectorizedMismatch_4 5 rfl rfl)
theorem dJ12_vectorizedMismatch_101 : decode cJ12_vectorizedMismatch 101 = .ok (.iload 7, 2) := dk_21 7 (dk_at dksJ12_vectorizedMismatch_4 8 rfl rfl)
theorem dJ12_vectorizedMismatch_103 : decode cJ12_vectorizedMismatch 103 = .ok (.iadd, 1) := dk_96 (dk_at dksJ12_vectorizedMismatch_4 10 rfl rfl)
theorem dJ12_vectorizedMismatch_104 : decode cJ12_vectorizedMismatch 104 = .ok (.ishr, 1) := dk_122 (dk_at dksJ12_vectorizedMismatch_4 11 rfl rfl)
theorem dJ12_vectorizedMismatch_105 : decode cJ12_vectorizedMismatch 105 = .ok (.istore 18, 2) := dk_54 18 (dk_at dksJ12_vectorizedMismatch_4 12 rfl rfl)
theorem dJ12_vectorizedMismatch_107 : decode cJ12_vectorizedMismatch 107 = .ok (.iload 9, 2) := dk_21 9 (dk_at dksJ12_vectorizedMismatch_4 14 rfl rfl)
theorem dJ12_vectorizedMismatch_109 : decode cJ12_vectorizedMismatch 109 = .ok (.iload 8, 2) := dk_21 8 (dk_at dksJ12_vectorizedMismatch_4 16 rfl rfl)
theorem dJ12_vectorizedMismatch_111 : decode cJ12_vectorizedMismatch 111 = .ok (.ishl, 1) := dk_120 (dk_at dksJ12_vectorizedMismatch_4 18 rfl rfl)
theorem dJ12_vectorizedMismatch_112 : decode cJ12_vectorizedMismatch 112 = .ok (.iload 18, 2) := dk_21 18 (dk_at dksJ12_vectorizedMismatch_4 19 rfl rfl)
theorem dJ12_vectorizedMismatch_114 : decode cJ12_vectorizedMismatch 114 = .ok (.iadd, 1) := dk_96 (dk_at dksJ12_vectorizedMismatch_4 21 rfl rfl)
theorem dJ12_vectorizedMismatch_115 : decode cJ12_vectorizedMismatch 115 = .ok (.ireturn, 1) := dk_172 (dk_at dksJ12_vectorizedMismatch_4 22 rfl rfl)
theorem dJ12_vectorizedMismatch_116 : decode cJ12_vectorizedMismatch 116 = .ok (.iinc 9 1, 3) := dk_132 9 1 (dk_at dksJ12_vectorizedMismatch_5 0 rfl rfl)
theorem dJ12_vectorizedMismatch_119 : decode cJ12_vectorizedMismatch 119 = .ok (.goto (-108), 3) := dk_167 255 148 (dk_at dksJ12_vectorizedMismatch_5 3 rfl rfl)
theorem dJ12_vectorizedMismatch_122 : decode cJ12_vectorizedMismatch 122 = .ok (.iload 6, 2) := dk_21 6 (dk_at dksJ12_vectorizedMismatch_5 6 rfl rfl)
theorem dJ12_vectorizedMismatch_124 : decode cJ12_vectorizedMismatch 124 = .ok (.iload 9, 2) := dk_21 9 (dk_at dksJ12_vectorizedMismatch_5 8 rfl rfl)
theorem dJ12_vectorizedMismatch_126 : decode cJ12_vectorizedMismatch 126 = .ok (.iload 8, 2) := dk_21 8 (dk_at dksJ12_vectorizedMismatch_5 10 rfl rfl)
theorem dJ12_vectorizedMismatch_128 : decode cJ12_vectorizedMismatch 128 = .ok (.ishl, 1) := dk_120 (dk_at dksJ12_vectorizedMismatch_5 12 rfl rfl)
theorem dJ12_vectorizedMismatch_129 : decode cJ12_vectorizedMismatch 129 = .ok (.isub, 1) := dk_100 (dk_at dksJ12_vectorizedMismatch_5 13 rfl rfl)
theorem dJ12_vectorizedMismatch_130 : decode cJ12_vectorizedMismatch 130 = .ok (.istore 10, 2) := dk_54 10 (dk_at dksJ12_vectorizedMismatch_5 14 rfl rfl)
theorem dJ12_vectorizedMismatch_132 : decode cJ12_vectorizedMismatch 132 = .ok (.iload 7, 2) := dk_21 7 (dk_at dksJ12_vectorizedMismatch_5 16 rfl rfl)
theorem dJ12_vectorizedMismatch_134 : decode cJ12_vectorizedMismatch 134 = .ok (.getstatic 51, 3) := dk_178 0 51 (dk_at dksJ12_vectorizedMismatch_5 18 rfl rfl)
theorem dJ12_vectorizedMismatch_137 : decode cJ12_vectorizedMismatch 137 = .ok (.if_icmp .ge 126, 3) := dk_162 0 126 (dk_at dksJ12_vectorizedMismatch_5 21 rfl rfl)
theorem dJ12_vectorizedMismatch_140 : decode cJ12_vectorizedMismatch 140 = .ok (.iconst 1, 1) := dk_4 (dk_at dksJ12_vectorizedMismatch_6 0 rfl rfl)
theorem dJ12_vectorizedMismatch_141 : decode cJ12_vectorizedMismatch 141 = .ok (.getstatic 51, 3) := dk_178 0 51 (dk_at dksJ12_vectorizedMismatch_6 1 rfl rfl)
theorem dJ12_vectorizedMismatch_144 : decode cJ12_vectorizedMismatch 144 = .ok (.iload 7, 2) := dk_21 7 (dk_at dksJ12_vectorizedMismatch_6 4 rfl rfl)
theorem dJ12_vectorizedMismatch_146 : decode cJ12_vectorizedMismatch 146 = .ok (.isub, 1) := dk_100 (dk_at dksJ12_vectorizedMismatch_6 6 rfl rfl)
theorem dJ12_vectorizedMismatch_147 : decode cJ12_vectorizedMismatch 147 = .ok (.ishl, 1) := dk_120 (dk_at dksJ12_vectorizedMismatch_6 7 rfl rfl)
theorem dJ12_vectorizedMismatch_148 : decode cJ12_vectorizedMismatch 148 = .ok (.istore 11, 2) := dk_54 11 (dk_at dksJ12_vectorizedMismatch_6 8 rfl rfl)
theorem dJ12_vectorizedMismatch_150 : decode cJ12_vectorizedMismatch 150 = .ok (.iload 10, 2) := dk_21 10 (dk_at dksJ12_vectorizedMismatch_6 10 rfl rfl)
theorem dJ12_vectorizedMismatch_152 : decode cJ12_vectorizedMismatch 152 = .ok (.iload 11, 2) := dk_21 11 (dk_at dksJ12_vectorizedMismatch_6 12 rfl rfl)
theorem dJ12_vectorizedMismatch_154 : decode cJ12_vectorizedMismatch 154 = .ok (.if_icmp .lt 104, 3) := dk_161 0 104 (dk_at dksJ12_vectorizedMismatch_6 14 rfl rfl)
theorem dJ12_vectorizedMismatch_157 : decode cJ12_vectorizedMismatch 157 = .ok (.iload 9, 2) := dk_21 9 (dk_at dksJ12_vectorizedMismatch_6 17 rfl rfl)
theorem dJ12_vectorizedMismatch_159 : decode cJ12_vectorizedMismatch 159 = .ok (.i2l, 1) := dk_133 (dk_at dksJ12_vectorizedMismatch_6 19 rfl rfl)
theorem dJ12_vectorizedMismatch_160 : decode cJ12_vectorizedMismatch 160 = .ok (.getstatic 20, 3) := dk_178 0 20 (dk_at dksJ12_vectorizedMismatch_6 20 rfl rfl)
theorem dJ12_vectorizedMismatch_163 : decode cJ12_vectorizedMismatch 163 = .ok (.lshl, 1) := dk_121 (dk_at dksJ12_vectorizedMismatch_6 23 rfl rfl)
theorem dJ12_vectorizedMismatch_164 : decode cJ12_vectorizedMismatch 164 = .ok (.lstore 12, 2) := dk_55 12 (dk_at dksJ12_vectorizedMismatch_7 0 rfl rfl)
theorem dJ12_vectorizedMismatch_166 : decode cJ12_vectorizedMismatch 166 = .ok (.getstatic 26, 3) := dk_178 0 26 (dk_at dksJ12_vectorizedMismatch_7 2 rfl rfl)
theorem dJ12_vectorizedMismatch_169 : decode cJ12_vectorizedMismatch 169 = .ok (.aload_n 0, 1) := dk_42 (dk_at dksJ12_vectorizedMismatch_7 5 rfl rfl)
theorem dJ12_vectorizedMismatch_170 : decode cJ12_vectorizedMismatch 170 = .ok (.lload_n 1, 1) := dk_31 (dk_at dksJ12_vectorizedMismatch_7 6 rfl rfl)
theorem dJ12_vectorizedMismatch_171 : decode cJ12_vectorizedMismatch 171 = .ok (.lload 12, 2) := dk_22 12 (dk_at dksJ12_vectorizedMismatch_7 7 rfl rfl)
theorem dJ12_vectorizedMismatch_173 : decode cJ12_vectorizedMismatch 173 = .ok (.ladd, 1) := dk_97 (dk_at dksJ12_vectorizedMismatch_7 9 rfl rfl)
theorem dJ12_vectorizedMismatch_174 : decode cJ12_vectorizedMismatch 174 = .ok (.invokevirtual 54, 3) := dk_182 0 54 (dk_at dksJ12_vectorizedMismatch_7 10 rfl rfl)
theorem dJ12_vectorizedMismatch_177 : decode cJ12_vectorizedMismatch 177 = .ok (.istore 14, 2) := dk_54 14 (dk_at dksJ12_vectorizedMismatch_7 13 rfl rfl)
theorem dJ12_vectorizedMismatch_179 : decode cJ12_vectorizedMismatch 179 = .ok (.getstatic 26, 3) := dk_178 0 26 (dk_at dksJ12_vectorizedMismatch_7 15 rfl rfl)
theorem dJ12_vectorizedMismatch_182 : decode cJ12_vectorizedMismatch 182 = .ok (.aload_n 3, 1) := dk_45 (dk_at dksJ12_vectorizedMismatch_7 18 rfl rfl)
theorem dJ12_vectorizedMismatch_183 : decode cJ12_vectorizedMismatch 183 = .ok (.lload 4, 2) := dk_22 4 (dk_at dksJ12_vectorizedMismatch_7 19 rfl rfl)
theorem dJ12_vectorizedMismatch_185 : decode cJ12_vectorizedMismatch 185 = .ok (.lload 12, 2) := dk_22 12 (dk_at dksJ12_vectorizedMismatch_7 21 rfl rfl)
theorem dJ12_vectorizedMismatch_187 : decode cJ12_vectorizedMismatch 187 = .ok (.ladd, 1) := dk_97 (dk_at dksJ12_vectorizedMismatch_7 23 rfl rfl)
theorem dJ12_vectorizedMismatch_188 : decode cJ12_vectorizedMismatch 188 = .ok (.invokevirtual 54, 3) := dk_182 0 54 (dk_at dksJ12_vectorizedMismatch_8 0 rfl rfl)
theorem dJ12_vectorizedMismatch_191 : decode cJ12_vectorizedMismatch 191 = .ok (.istore 15, 2) := dk_54 15 (dk_at dksJ12_vectorizedMismatch_8 3 rfl rfl)
theorem dJ12_vectorizedMismatch_193 : decode cJ12_vectorizedMismatch 193 = .ok (.iload 14, 2) := dk_21 14 (dk_at dksJ12_vectorizedMismatch_8 5 rfl rfl)
theorem dJ12_vectorizedMismatch_195 : decode cJ12_vectorizedMismatch 195 = .ok (.iload 15, 2) := dk_21 15 (dk_at dksJ12_vectorizedMismatch_8 7 rfl rfl)
theorem dJ12_vectorizedMismatch_197 : decode cJ12_vectorizedMismatch 197 = .ok (.if_icmp .eq 54, 3) := dk_159 0 54 (dk_at dksJ12_vectorizedMismatch_8 9 rfl rfl)
theorem dJ12_vectorizedMismatch_200 : decode cJ12_vectorizedMismatch 200 = .ok (.iload 14, 2) := dk_21 14 (dk_at dksJ12_vectorizedMismatch_8 12 rfl rfl)
theorem dJ12_vectorizedMismatch_202 : decode cJ12_vectorizedMismatch 202 = .ok (.iload 15, 2) := dk_21 15 (dk_at dksJ12_vectorizedMismatch_8 14 rfl rfl)
theorem dJ12_vectorizedMismatch_204 : decode cJ12_vectorizedMismatch 204 = .ok (.ixor, 1) := dk_130 (dk_at dksJ12_vectorizedMismatch_8 16 rfl rfl)
theorem dJ12_vectorizedMismatch_205 : decode cJ12_vectorizedMismatch 205 = .ok (.istore 16, 2) := dk_54 16 (dk_at dksJ12_vectorizedMismatch_8 17 rfl rfl)
theorem dJ12_vectorizedMismatch_207 : decode cJ12_vectorizedMismatch 207 = .ok (.getstatic 36, 3) := dk_178 0 36 (dk_at dksJ12_vectorizedMismatch_8 19 rfl rfl)
theorem dJ12_vectorizedMismatch_210 : decode cJ12_vectorizedMismatch 210 = .ok (.ifCond .eq 18, 3) := dk_153 0 18 (dk_at dksJ12_vectorizedMismatch_9 0 rfl rfl)
theorem dJ12_vectorizedMismatch_213 : decode cJ12_vectorizedMismatch 213 = .ok (.iload 16, 2) := dk_21 16 (dk_at dksJ12_vectorizedMismatch_9 3 rfl rfl)
theorem dJ12_vectorizedMismatch_215 : decode cJ12_vectorizedMismatch 215 = .ok (.invokestatic 58, 3) := dk_184 0 58 (dk_at dksJ12_vectorizedMismatch_9 5 rfl rfl)
theorem dJ12_vectorizedMismatch_218 : decode cJ12_vectorizedMismatch 218 = .ok (.getstatic 46, 3) := dk_178 0 46 (dk_at dksJ12_vectorizedMismatch_9 8 rfl rfl)
theorem dJ12_vectorizedMismatch_221 : decode cJ12_vectorizedMismatch 221 = .ok (.iload 7, 2) := dk_21 7 (dk_at dksJ12_vectorizedMismatch_9 11 rfl rfl)
theorem dJ12_vectorizedMismatch_223 : decode cJ12_vectorizedMismatch 223 = .ok (.iadd, 1) := dk_96 (dk_at dksJ12_vectorizedMismatch_9 13 rfl rfl)
theorem dJ12_vectorizedMismatch_224 : decode cJ12_vectorizedMismatch 224 = .ok (.ishr, 1) := dk_122 (dk_at dksJ12_vectorizedMismatch_9 14 rfl rfl)
theorem dJ12_vectorizedMismatch_225 : decode cJ12_vectorizedMismatch 225 = .ok (.goto 15, 3) := dk_167 0 15 (dk_at dksJ12_vectorizedMismatch_9 15 rfl rfl)
theorem dJ12_vectorizedMismatch_228 : decode cJ12_vectorizedMismatch 228 = .ok (.iload 16, 2) := dk_21 16 (dk_at dksJ12_vectorizedMismatch_9 18 rfl rfl)
theorem dJ12_vectorizedMismatch_230 : decode cJ12_vectorizedMismatch 230 = .ok (.invokestatic 11, 3) := dk_184 0 11 (dk_at dksJ12_vectorizedMismatch_9 20 rfl rfl)
theorem dJ12_vectorizedMismatch_233 : decode cJ12_vectorizedMismatch 233 = .ok (.getstatic 46, 3) := dk_178 0 46 (dk_at dksJ12_vectorizedMismatch_10 0 rfl rfl)
theorem dJ12_vectorizedMismatch_236 : decode cJ12_vectorizedMismatch 236 = .ok (.iload 7, 2) := dk_21 7 (dk_at dksJ12_vectorizedMismatch_10 3 rfl rfl)
theorem dJ12_vectorizedMismatch_238 : decode cJ12_vectorizedMismatch 238 = .ok (.iadd, 1) := dk_96 (dk_at dksJ12_vectorizedMismatch_10 5 rfl rfl)
theorem dJ12_vectorizedMismatch_239 : decode cJ12_vectorizedMismatch 239 = .ok (.ishr, 1) := dk_122 (dk_at dksJ12_vectorizedMismatch_10 6 rfl rfl)
theorem dJ12_vectorizedMismatch_240 : decode cJ12_vectorizedMismatch 240 = .ok (.istore 17, 2) := dk_54 17 (dk_at dksJ12_vectorizedMismatch_10 7 rfl rfl)
theorem dJ12_vectorizedMismatch_242 : decode cJ12_vectorizedMismatch 242 = .ok (.iload 9, 2) := dk_21 9 (dk_at dksJ12_vectorizedMismatch_10 9 rfl rfl)
theorem dJ12_vectorizedMismatch_244 : decode cJ12_vectorizedMismatch 244 = .ok (.iload 8, 2) := dk_21 8 (dk_at dksJ12_vectorizedMismatch_10 11 rfl rfl)
theorem dJ12_vectorizedMismatch_246 : decode cJ12_vectorizedMismatch 246 = .ok (.ishl, 1) := dk_120 (dk_at dksJ12_vectorizedMismatch_10 13 rfl rfl)
theorem dJ12_vectorizedMismatch_247 : decode cJ12_vectorizedMismatch 247 = .ok (.iload 17, 2) := dk_21 17 (dk_at dksJ12_vectorizedMismatch_10 14 rfl rfl)
theorem dJ12_vectorizedMismatch_249 : decode cJ12_vectorizedMismatch 249 = .ok (.iadd, 1) := dk_96 (dk_at dksJ12_vectorizedMismatch_10 16 rfl rfl)
theorem dJ12_vectorizedMismatch_250 : decode cJ12_vectorizedMismatch 250 = .ok (.ireturn, 1) := dk_172 (dk_at dksJ12_vectorizedMismatch_10 17 rfl rfl)
theorem dJ12_vectorizedMismatch_251 : decode cJ12_vectorizedMismatch 251 = .ok (.iload 10, 2) := dk_21 10 (dk_at dksJ12_vectorizedMismatch_10 18 rfl rfl)
theorem dJ12_vectorizedMismatch_253 : decode cJ12_vectorizedMismatch 253 = .ok (.iload 11, 2) := dk_21 11 (dk_at dksJ12_vectorizedMismatch_10 20 rfl rfl)
theorem dJ12_vectorizedMismatch_255 : decode cJ12_vectorizedMismatch 255 = .ok (.isub, 1) := dk_100 (dk_at dksJ12_vectorizedMismatch_10 22 rfl rfl)
theorem dJ12_vectorizedMismatch_256 : decode cJ12_vectorizedMismatch 256 = .ok (.istore 10, 2) := dk_54 10 (dk_at dksJ12_vectorizedMismatch_11 0 rfl rfl)
theorem dJ12_vectorizedMismatch_258 : decode cJ12_vectorizedMismatch 258 = .ok (.iload 10, 2) := dk_21 10 (dk_at dksJ12_vectorizedMismatch_11 2 rfl rfl)
theorem dJ12_vectorizedMismatch_260 : decode cJ12_vectorizedMismatch 260 = .ok (.iconst (-1), 1) := dk_2 (dk_at dksJ12_vectorizedMismatch_11 4 rfl rfl)
theorem dJ12_vectorizedMismatch_261 : decode cJ12_vectorizedMismatch 261 = .ok (.ixor, 1) := dk_130 (dk_at dksJ12_vectorizedMismatch_11 5 rfl rfl)
theorem dJ12_vectorizedMismatch_262 : decode cJ12_vectorizedMismatch 262 = .ok (.ireturn, 1) := dk_172 (dk_at dksJ12_vectorizedMismatch_11 6 rfl rfl)
theorem dJ12_vectorizedMismatch_263 : decode cJ12_vectorizedMismatch 263 = .ok (.iload 10, 2) := dk_21 10 (dk_at dksJ12_vectorizedMismatch_11 7 rfl rfl)
theorem dJ12_vectorizedMismatch_265 : decode cJ12_vectorizedMismatch 265 = .ok (.iconst (-1), 1) := dk_2 (dk_at dksJ12_vectorizedMismatch_11 9 rfl rfl)
theorem dJ12_vectorizedMismatch_266 : decode cJ12_vectorizedMismatch 266 = .ok (.ixor, 1) := dk_130 (dk_at dksJ12_vectorizedMismatch_11 10 rfl rfl)
theorem dJ12_vectorizedMismatch_267 : decode cJ12_vectorizedMismatch 267 = .ok (.ireturn, 1) := dk_172 (dk_at dksJ12_vectorizedMismatch_11 11 rfl rfl)
abbrev cJ12_newLength : ByteArray := prog_87_method_27_code
def yJ12_newLength : MethodName := ⟨RJ12, "newLength", "(III)I"⟩
def dkwJ12_newLength_1 : List UInt8 := [184, 0, 201, 172]
abbrev dktJ12_newLength_1 : List UInt8 := dkwJ12_newLength_1 ++ []
def dkwJ12_newLength_0 : List UInt8 := [26, 27, 28, 184, 0, 194, 96, 62, 3, 29, 162, 0, 11, 29, 18, 200, 163, 0, 5, 29, 172, 26, 27]
abbrev dktJ12_newLength_0 : List UInt8 := dkwJ12_newLength_0 ++ dktJ12_newLength_1
theorem dksJ12_newLength_0 : cJ12_newLength.data.toList.drop 0 = dktJ12_newLength_0 := by decide +kernel
theorem dksJ12_newLength_1 : cJ12_newLength.data.toList.drop 23 = dktJ12_newLength_1 := dk_seg dksJ12_newLength_0 23 rfl rfl
theorem dJ12_newLength_0 : decode cJ12_newLength 0 = .ok (.iload_n 0, 1) := dk_26 (dk_at dksJ12_newLength_0 0 rfl rfl)
theorem dJ12_newLength_1 : decode cJ12_newLength 1 = .ok (.iload_n 1, 1) := dk_27 (dk_at dksJ12_newLength_0 1 rfl rfl)
theorem dJ12_newLength_2 : decode cJ12_newLength 2 = .ok (.iload_n 2, 1) := dk_28 (dk_at dksJ12_newLength_0 2 rfl rfl)
theorem dJ12_newLength_3 : decode cJ12_newLength 3 = .ok (.invokestatic 194, 3) := dk_184 0 194 (dk_at dksJ12_newLength_0 3 rfl rfl)
theorem dJ12_newLength_6 : decode cJ12_newLength 6 = .ok (.iadd, 1) := dk_96 (dk_at dksJ12_newLength_0 6 rfl rfl)
theorem dJ12_newLength_7 : decode cJ12_newLength 7 = .ok (.istore_n 3, 1) := dk_62 (dk_at dksJ12_newLength_0 7 rfl rfl)
theorem dJ12_newLength_8 : decode cJ12_newLength 8 = .ok (.iconst 0, 1) := dk_3 (dk_at dksJ12_newLength_0 8 rfl rfl)
theorem dJ12_newLength_9 : decode cJ12_newLength 9 = .ok (.iload_n 3, 1) := dk_29 (dk_at dksJ12_newLength_0 9 rfl rfl)
theorem dJ12_newLength_10 : decode cJ12_newLength 10 = .ok (.if_icmp .ge 11, 3) := dk_162 0 11 (dk_at dksJ12_newLength_0 10 rfl rfl)
theorem dJ12_newLength_13 : decode cJ12_newLength 13 = .ok (.iload_n 3, 1) := dk_29 (dk_at dksJ12_newLength_0 13 rfl rfl)
theorem dJ12_newLength_14 : decode cJ12_newLength 14 = .ok (.ldc 200, 2) := dk_18 200 (dk_at dksJ12_newLength_0 14 rfl rfl)
theorem dJ12_newLength_16 : decode cJ12_newLength 16 = .ok (.if_icmp .gt 5, 3) := dk_163 0 5 (dk_at dksJ12_newLength_0 16 rfl rfl)
theorem dJ12_newLength_19 : decode cJ12_newLength 19 = .ok (.iload_n 3, 1) := dk_29 (dk_at dksJ12_newLength_0 19 rfl rfl)
theorem dJ12_newLength_20 : decode cJ12_newLength 20 = .ok (.ireturn, 1) := dk_172 (dk_at dksJ12_newLength_0 20 rfl rfl)
theorem dJ12_newLength_21 : decode cJ12_newLength 21 = .ok (.iload_n 0, 1) := dk_26 (dk_at dksJ12_newLength_0 21 rfl rfl)
theorem dJ12_newLength_22 : decode cJ12_newLength 22 = .ok (.iload_n 1, 1) := dk_27 (dk_at dksJ12_newLength_0 22 rfl rfl)
theorem dJ12_newLength_23 : decode cJ12_newLength 23 = .ok (.invokestatic 201, 3) := dk_184 0 201 (dk_at dksJ12_newLength_1 0 rfl rfl)
theorem dJ12_newLength_26 : decode cJ12_newLength 26 = .ok (.ireturn, 1) := dk_172 (dk_at dksJ12_newLength_1 3 rfl rfl)
abbrev cJ12_hugeLength : ByteArray := prog_87_method_28_code
def yJ12_hugeLength : MethodName := ⟨RJ12, "hugeLength", "(II)I"⟩
def dkwJ12_hugeLength_2 : List UInt8 := [191, 28, 18, 200, 163, 0, 6, 18, 200, 172, 28, 172]
abbrev dktJ12_hugeLength_2 : List UInt8 := dkwJ12_hugeLength_2 ++ []
def dkwJ12_hugeLength_1 : List UInt8 := [26, 182, 0, 98, 18, 208, 182, 0, 94, 27, 182, 0, 98, 18, 210, 182, 0, 94, 182, 0, 101, 183, 0, 212]
abbrev dktJ12_hugeLength_1 : List UInt8 := dkwJ12_hugeLength_1 ++ dktJ12_hugeLength_2
def dkwJ12_hugeLength_0 : List UInt8 := [26, 27, 96, 61, 28, 156, 0, 44, 187, 0, 204, 89, 187, 0, 89, 89, 183, 0, 91, 18, 206, 182, 0, 94]
abbrev dktJ12_hugeLength_0 : List UInt8 := dkwJ12_hugeLength_0 ++ dktJ12_hugeLength_1
theorem dksJ12_hugeLength_0 : cJ12_hugeLength.data.toList.drop 0 = dktJ12_hugeLength_0 := by decide +kernel
theorem dksJ12_hugeLength_1 : cJ12_hugeLength.data.toList.drop 24 = dktJ12_hugeLength_1 := dk_seg dksJ12_hugeLength_0 24 rfl rfl
theorem dksJ12_hugeLength_2 : cJ12_hugeLength.data.toList.drop 48 = dktJ12_hugeLength_2 := dk_seg dksJ12_hugeLength_1 24 rfl rfl
theorem dJ12_hugeLength_0 : decode cJ12_hugeLength 0 = .ok (.iload_n 0, 1) := dk_26 (dk_at dksJ12_hugeLength_0 0 rfl rfl)
theorem dJ12_hugeLength_1 : decode cJ12_hugeLength 1 = .ok (.iload_n 1, 1) := dk_27 (dk_at dksJ12_hugeLength_0 1 rfl rfl)
theorem dJ12_hugeLength_2 : decode cJ12_hugeLength 2 = .ok (.iadd, 1) := dk_96 (dk_at dksJ12_hugeLength_0 2 rfl rfl)
theorem dJ12_hugeLength_3 : decode cJ12_hugeLength 3 = .ok (.istore_n 2, 1) := dk_61 (dk_at dksJ12_hugeLength_0 3 rfl rfl)
theorem dJ12_hugeLength_4 : decode cJ12_hugeLength 4 = .ok (.iload_n 2, 1) := dk_28 (dk_at dksJ12_hugeLength_0 4 rfl rfl)
theorem dJ12_hugeLength_5 : decode cJ12_hugeLength 5 = .ok (.ifCond .ge 44, 3) := dk_156 0 44 (dk_at dksJ12_hugeLength_0 5 rfl rfl)
theorem dJ12_hugeLength_8 : decode cJ12_hugeLength 8 = .ok (.new 204, 3) := dk_187 0 204 (dk_at dksJ12_hugeLength_0 8 rfl rfl)
theorem dJ12_hugeLength_11 : decode cJ12_hugeLength 11 = .ok (.dup, 1) := dk_89 (dk_at dksJ12_hugeLength_0 11 rfl rfl)
theorem dJ12_hugeLength_12 : decode cJ12_hugeLength 12 = .ok (.new 89, 3) := dk_187 0 89 (dk_at dksJ12_hugeLength_0 12 rfl rfl)
theorem dJ12_hugeLength_15 : decode cJ12_hugeLength 15 = .ok (.dup, 1) := dk_89 (dk_at dksJ12_hugeLength_0 15 rfl rfl)
theorem dJ12_hugeLength_16 : decode cJ12_hugeLength 16 = .ok (.invokespecial 91, 3) := dk_183 0 91 (dk_at dksJ12_hugeLength_0 16 rfl rfl)
theorem dJ12_hugeLength_19 : decode cJ12_hugeLength 19 = .ok (.ldc 206, 2) := dk_18 206 (dk_at dksJ12_hugeLength_0 19 rfl rfl)
theorem dJ12_hugeLength_21 : decode cJ12_hugeLength 21 = .ok (.invokevirtual 94, 3) := dk_182 0 94 (dk_at dksJ12_hugeLength_0 21 rfl rfl)
theorem dJ12_hugeLength_24 : decode cJ12_hugeLength 24 = .ok (.iload_n 0, 1) := dk_26 (dk_at dksJ12_hugeLength_1 0 rfl rfl)
theorem dJ12_hugeLength_25 : decode cJ12_hugeLength 25 = .ok (.invokevirtual 98, 3) := dk_182 0 98 (dk_at dksJ12_hugeLength_1 1 rfl rfl)
theorem dJ12_hugeLength_28 : decode cJ12_hugeLength 28 = .ok (.ldc 208, 2) := dk_18 208 (dk_at dksJ12_hugeLength_1 4 rfl rfl)
theorem dJ12_hugeLength_30 : decode cJ12_hugeLength 30 = .ok (.invokevirtual 94, 3) := dk_182 0 94 (dk_at dksJ12_hugeLength_1 6 rfl rfl)
theorem dJ12_hugeLength_33 : decode cJ12_hugeLength 33 = .ok (.iload_n 1, 1) := dk_27 (dk_at dksJ12_hugeLength_1 9 rfl rfl)
theorem dJ12_hugeLength_34 : decode cJ12_hugeLength 34 = .ok (.invokevirtual 98, 3) := dk_182 0 98 (dk_at dksJ12_hugeLength_1 10 rfl rfl)
theorem dJ12_hugeLength_37 : decode cJ12_hugeLength 37 = .ok (.ldc 210, 2) := dk_18 210 (dk_at dksJ12_hugeLength_1 13 rfl rfl)
theorem dJ12_hugeLength_39 : decode cJ12_hugeLength 39 = .ok (.invokevirtual 94, 3) := dk_182 0 94 (dk_at dksJ12_hugeLength_1 15 rfl rfl)
theorem dJ12_hugeLength_42 : decode cJ12_hugeLength 42 = .ok (.invokevirtual 101, 3) := dk_182 0 101 (dk_at dksJ12_hugeLength_1 18 rfl rfl)
theorem dJ12_hugeLength_45 : decode cJ12_hugeLength 45 = .ok (.invokespecial 212, 3) := dk_183 0 212 (dk_at dksJ12_hugeLength_1 21 rfl rfl)
theorem dJ12_hugeLength_48 : decode cJ12_hugeLength 48 = .ok (.athrow, 1) := dk_191 (dk_at dksJ12_hugeLength_2 0 rfl rfl)
theorem dJ12_hugeLength_49 : decode cJ12_hugeLength 49 = .ok (.iload_n 2, 1) := dk_28 (dk_at dksJ12_hugeLength_2 1 rfl rfl)
theorem dJ12_hugeLength_50 : decode cJ12_hugeLength 50 = .ok (.ldc 200, 2) := dk_18 200 (dk_at dksJ12_hugeLength_2 2 rfl rfl)
theorem dJ12_hugeLength_52 : decode cJ12_hugeLength 52 = .ok (.if_icmp .gt 6, 3) := dk_163 0 6 (dk_at dksJ12_hugeLength_2 4 rfl rfl)
theorem dJ12_hugeLength_55 : decode cJ12_hugeLength 55 = .ok (.ldc 200, 2) := dk_18 200 (dk_at dksJ12_hugeLength_2 7 rfl rfl)
theorem dJ12_hugeLength_57 : decode cJ12_hugeLength 57 = .ok (.ireturn, 1) := dk_172 (dk_at dksJ12_hugeLength_2 9 rfl rfl)
theorem dJ12_hugeLength_58 : decode cJ12_hugeLength 58 = .ok (.iload_n 2, 1) := dk_28 (dk_at dksJ12_hugeLength_2 10 rfl rfl)
theorem dJ12_hugeLength_59 : decode cJ12_hugeLength 59 = .ok (.ireturn, 1) := dk_172 (dk_at dksJ12_hugeLength_2 11 rfl rfl)
theorem q113 : (Jvm.Cond.initialized "jdk/internal/util/ArraysSupport") ∈ lw_all := lw_g (lw_at lw_m1 20 rfl) rfl
theorem q489 : (Jvm.Cond.static ({ cls := "jdk/internal/util/ArraysSupport", name := "mismatch", desc := "([B[BI)I" } : Jvm.MethodName)) ∈ lw_all := lw_g (lw_at lw_m2 156 rfl) rfl
theorem q490 : (Jvm.Cond.code ({ cls := "jdk/internal/util/ArraysSupport", name := "mismatch", desc := "([B[BI)I" } : Jvm.MethodName) prog_87_method_13_code (4 : Nat) (Option.some Jvm.ClassFile.FieldType.int)) ∈ lw_all := lw_g (lw_at lw_m2 157 rfl) rfl
theorem q491 : (Jvm.Cond.fieldLink "jdk/internal/util/ArraysSupport" (126 : Nat) "jdk/internal/misc/Unsafe" "ARRAY_BYTE_BASE_OFFSET" "I") ∈ lw_all := lw_g (lw_at lw_m2 158 rfl) rfl
theorem q493 : (Jvm.Cond.fieldLink "jdk/internal/util/ArraysSupport" (129 : Nat) "jdk/internal/util/ArraysSupport" "LOG2_ARRAY_BYTE_INDEX_SCALE" "I") ∈ lw_all := lw_g (lw_at lw_m2 160 rfl) rfl
theorem q494 : (Jvm.Cond.laysStatic "jdk/internal/util/ArraysSupport" "LOG2_ARRAY_BYTE_INDEX_SCALE" "I") ∈ lw_tbl := lw_at lw_m2 161 rfl
theorem q495 : (Jvm.Cond.methodLink "jdk/internal/util/ArraysSupport" (122 : Nat) ({ cls := "jdk/internal/util/ArraysSupport", name := "vectorizedMismatch", desc := "(Ljava/lang/Object;JLjava/lang/Object;JII)I" } : Jvm.MethodName)) ∈ lw_all := lw_g (lw_at lw_m2 162 rfl) rfl
theorem q496 : (Jvm.Cond.static ({ cls := "jdk/internal/util/ArraysSupport", name := "vectorizedMismatch", desc := "(Ljava/lang/Object;JLjava/lang/Object;JII)I" } : Jvm.MethodName)) ∈ lw_all := lw_g (lw_at lw_m2 163 rfl) rfl
theorem q497 : (Jvm.Cond.code ({ cls := "jdk/internal/util/ArraysSupport", name := "vectorizedMismatch", desc := "(Ljava/lang/Object;JLjava/lang/Object;JII)I" } : Jvm.MethodName) prog_87_method_3_code (19 : Nat) (Option.some Jvm.ClassFile.FieldType.int)) ∈ lw_all := lw_g (lw_at lw_m2 164 rfl) rfl
theorem q498 : (Jvm.Cond.fieldLink "jdk/internal/util/ArraysSupport" (20 : Nat) "jdk/internal/util/ArraysSupport" "LOG2_ARRAY_LONG_INDEX_SCALE" "I") ∈ lw_all := lw_g (lw_at lw_m2 165 rfl) rfl
theorem q499 : (Jvm.Cond.laysStatic "jdk/internal/util/ArraysSupport" "LOG2_ARRAY_LONG_INDEX_SCALE" "I") ∈ lw_tbl := lw_at lw_m2 166 rfl
theorem q500 : (Jvm.Cond.fieldLink "jdk/internal/util/ArraysSupport" (26 : Nat) "jdk/internal/util/ArraysSupport" "U" "Ljdk/internal/misc/Unsafe;") ∈ lw_all := lw_g (lw_at lw_m2 167 rfl) rfl
theorem q501 : (Jvm.Cond.laysStatic "jdk/internal/util/ArraysSupport" "U" "Ljdk/internal/misc/Unsafe;") ∈ lw_tbl := lw_at lw_m2 168 rfl
theorem q502 : (Jvm.Cond.methodLink "jdk/internal/util/ArraysSupport" (30 : Nat) ({ cls := "jdk/internal/misc/Unsafe", name := "getLongUnaligned", desc := "(Ljava/lang/Object;J)J" } : Jvm.MethodName)) ∈ lw_all := lw_g (lw_at lw_m2 169 rfl) rfl
theorem q554 : (Jvm.Cond.fieldLink "jdk/internal/util/ArraysSupport" (36 : Nat) "jdk/internal/util/ArraysSupport" "BIG_ENDIAN" "Z") ∈ lw_all := lw_g (lw_at lw_m2 221 rfl) rfl
theorem q555 : (Jvm.Cond.laysStatic "jdk/internal/util/ArraysSupport" "BIG_ENDIAN" "Z") ∈ lw_tbl := lw_at lw_m2 222 rfl
theorem q556 : (Jvm.Cond.methodLink "jdk/internal/util/ArraysSupport" (40 : Nat) ({ cls := "java/lang/Long", name := "numberOfLeadingZeros", desc := "(J)I" } : Jvm.MethodName)) ∈ lw_all := lw_g (lw_at lw_m2 223 rfl) rfl
theorem q563 : (Jvm.Cond.fieldLink "jdk/internal/util/ArraysSupport" (46 : Nat) "jdk/internal/util/ArraysSupport" "LOG2_BYTE_BIT_SIZE" "I") ∈ lw_all := lw_g (lw_at lw_m2 230 rfl) rfl
theorem q564 : (Jvm.Cond.laysStatic "jdk/internal/util/ArraysSupport" "LOG2_BYTE_BIT_SIZE" "I") ∈ lw_tbl := lw_at lw_m2 231 rfl
theorem q565 : (Jvm.Cond.methodLink "jdk/internal/util/ArraysSupport" (49 : Nat) ({ cls := "java/lang/Long", name := "numberOfTrailingZeros", desc := "(J)I" } : Jvm.MethodName)) ∈ lw_all := lw_g (lw_at lw_m2 232 rfl) rfl
theorem q571 : (Jvm.Cond.fieldLink "jdk/internal/util/ArraysSupport" (51 : Nat) "jdk/internal/util/ArraysSupport" "LOG2_ARRAY_INT_INDEX_SCALE" "I") ∈ lw_all := lw_g (lw_at lw_m2 238 rfl) rfl
theorem q572 : (Jvm.Cond.laysStatic "jdk/internal/util/ArraysSupport" "LOG2_ARRAY_INT_INDEX_SCALE" "I") ∈ lw_tbl := lw_at lw_m2 239 rfl
theorem q573 : (Jvm.Cond.methodLink "jdk/internal/util/ArraysSupport" (54 : Nat) ({ cls := "jdk/internal/misc/Unsafe", name := "getIntUnaligned", desc := "(Ljava/lang/Object;J)I" } : Jvm.MethodName)) ∈ lw_all := lw_g (lw_at lw_m3 0 rfl) rfl
theorem q590 : (Jvm.Cond.methodLink "jdk/internal/util/ArraysSupport" (58 : Nat) ({ cls := "java/lang/Integer", name := "numberOfLeadingZeros", desc := "(I)I" } : Jvm.MethodName)) ∈ lw_all := lw_g (lw_at lw_m3 17 rfl) rfl
theorem q591 : (Jvm.Cond.methodLink "jdk/internal/util/ArraysSupport" (11 : Nat) ({ cls := "java/lang/Integer", name := "numberOfTrailingZeros", desc := "(I)I" } : Jvm.MethodName)) ∈ lw_all := lw_g (lw_at lw_m3 18 rfl) rfl
theorem q1414 : (Jvm.Cond.static ({ cls := "jdk/internal/util/ArraysSupport", name := "newLength", desc := "(III)I" } : Jvm.MethodName)) ∈ lw_all := lw_g (lw_at lw_m6 121 rfl) rfl
theorem q1415 : (Jvm.Cond.code ({ cls := "jdk/internal/util/ArraysSupport", name := "newLength", desc := "(III)I" } : Jvm.MethodName) prog_87_method_27_code (4 : Nat) (Option.some Jvm.ClassFile.FieldType.int)) ∈ lw_all := lw_g (lw_at lw_m6 122 rfl) rfl
theorem q1416 : (Jvm.Cond.methodLink "jdk/internal/util/ArraysSupport" (194 : Nat) ({ cls := "java/lang/Math", name := "max", desc := "(II)I" } : Jvm.MethodName)) ∈ lw_all := lw_g (lw_at lw_m6 123 rfl) rfl
theorem q1417 : (Jvm.Cond.constant "jdk/internal/util/ArraysSupport" (200 : Nat) (2147483639 : Int32)) ∈ lw_all := lw_g (lw_at lw_m6 124 rfl) rfl
theorem q1418 : (Jvm.Cond.methodLink "jdk/internal/util/ArraysSupport" (201 : Nat) ({ cls := "jdk/internal/util/ArraysSupport", name := "hugeLength", desc := "(II)I" } : Jvm.MethodName)) ∈ lw_all := lw_g (lw_at lw_m6 125 rfl) rfl
theorem q1419 : (Jvm.Cond.static ({ cls := "jdk/internal/util/ArraysSupport", name := "hugeLength", desc := "(II)I" } : Jvm.MethodName)) ∈ lw_all := lw_g (lw_at lw_m6 126 rfl) rfl
theorem q1420 : (Jvm.Cond.code ({ cls := "jdk/internal/util/ArraysSupport", name := "hugeLength", desc := "(II)I" } : Jvm.MethodName) prog_87_method_28_code (3 : Nat) (Option.some Jvm.ClassFile.FieldType.int)) ∈ lw_all := lw_g (lw_at lw_m6 127 rfl) rfl
