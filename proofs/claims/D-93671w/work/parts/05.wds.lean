theorem q63 : (Jvm.Cond.initialized "GateRoadLaw") ∈ lw_all := lw_g (lw_at lw_m1 0 rfl) rfl
set_option maxRecDepth 100000
theorem q101 : (Jvm.Cond.classLink "GateRoadLaw" (7 : Nat) "GateRoad") ∈ lw_all := lw_g (lw_at lw_m1 38 rfl) rfl
theorem q103 : (Jvm.Cond.methodLink "GateRoadLaw" (9 : Nat) ({ cls := "GateRoad", name := "<init>", desc := "()V" } : Jvm.MethodName)) ∈ lw_all := lw_g (lw_at lw_m1 40 rfl) rfl
theorem q746 : (Jvm.Cond.methodLink "GateRoadLaw" (13 : Nat) ({ cls := "GateRoad", name := "rate", desc := "(IIII)I" } : Jvm.MethodName)) ∈ lw_all := lw_g (lw_at lw_m3 203 rfl) rfl
theorem q760 : (Jvm.Cond.methodLink "GateRoadLaw" (18 : Nat) ({ cls := "GateRoad", name := "toll", desc := "(III)I" } : Jvm.MethodName)) ∈ lw_all := lw_g (lw_at lw_m3 217 rfl) rfl
theorem q765 : (Jvm.Cond.methodLink "GateRoadLaw" (23 : Nat) ({ cls := "GateRoad", name := "sort", desc := "(IIII)I" } : Jvm.MethodName)) ∈ lw_all := lw_g (lw_at lw_m3 222 rfl) rfl
theorem q770 : (Jvm.Cond.methodLink "GateRoadLaw" (27 : Nat) ({ cls := "GateRoad", name := "cart", desc := "(I)I" } : Jvm.MethodName)) ∈ lw_all := lw_g (lw_at lw_m3 227 rfl) rfl
theorem q778 : (Jvm.Cond.methodLink "GateRoadLaw" (37 : Nat) ({ cls := "GateRoad", name := "gateTold", desc := "(III)I" } : Jvm.MethodName)) ∈ lw_all := lw_g (lw_at lw_m3 235 rfl) rfl
theorem q782 : (Jvm.Cond.methodLink "GateRoadLaw" (41 : Nat) ({ cls := "GateRoad", name := "sortTold", desc := "(II)I" } : Jvm.MethodName)) ∈ lw_all := lw_g (lw_at lw_m3 239 rfl) rfl
theorem q786 : (Jvm.Cond.methodLink "GateRoadLaw" (61 : Nat) ({ cls := "GateRoad", name := "way", desc := "(II)I" } : Jvm.MethodName)) ∈ lw_all := lw_g (lw_at lw_m4 3 rfl) rfl
theorem q923 : (Jvm.Cond.methodLink "GateRoadLaw" (65 : Nat) ({ cls := "GateRoad", name := "wayTold", desc := "(II)I" } : Jvm.MethodName)) ∈ lw_all := lw_g (lw_at lw_m4 140 rfl) rfl
theorem q965 : (Jvm.Cond.methodLink "GateRoadLaw" (69 : Nat) ({ cls := "GateRoad", name := "set", desc := "(III)I" } : Jvm.MethodName)) ∈ lw_all := lw_g (lw_at lw_m4 182 rfl) rfl
theorem q969 : (Jvm.Cond.methodLink "GateRoadLaw" (73 : Nat) ({ cls := "GateRoad", name := "of", desc := "(III)I" } : Jvm.MethodName)) ∈ lw_all := lw_g (lw_at lw_m4 186 rfl) rfl
theorem q1087 : (Jvm.Cond.methodLink "GateRoadLaw" (77 : Nat) ({ cls := "GateRoad", name := "line", desc := "(III)I" } : Jvm.MethodName)) ∈ lw_all := lw_g (lw_at lw_m5 64 rfl) rfl
theorem q1091 : (Jvm.Cond.methodLink "GateRoadLaw" (81 : Nat) ({ cls := "GateRoad", name := "passes", desc := "(II)I" } : Jvm.MethodName)) ∈ lw_all := lw_g (lw_at lw_m5 68 rfl) rfl
theorem q1095 : (Jvm.Cond.methodLink "GateRoadLaw" (85 : Nat) ({ cls := "GateRoad", name := "sum", desc := "(II)J" } : Jvm.MethodName)) ∈ lw_all := lw_g (lw_at lw_m5 72 rfl) rfl
theorem q1104 : (Jvm.Cond.methodLink "GateRoadLaw" (90 : Nat) ({ cls := "GateRoad", name := "judge", desc := "(II)I" } : Jvm.MethodName)) ∈ lw_all := lw_g (lw_at lw_m5 81 rfl) rfl
theorem q1117 : (Jvm.Cond.methodLink "GateRoadLaw" (94 : Nat) ({ cls := "GateRoad", name := "rest", desc := "(II)I" } : Jvm.MethodName)) ∈ lw_all := lw_g (lw_at lw_m5 94 rfl) rfl
theorem q1126 : (Jvm.Cond.methodLink "GateRoadLaw" (98 : Nat) ({ cls := "GateRoad", name := "other", desc := "(III)I" } : Jvm.MethodName)) ∈ lw_all := lw_g (lw_at lw_m5 103 rfl) rfl
theorem q1145 : (Jvm.Cond.methodLink "GateRoadLaw" (102 : Nat) ({ cls := "GateRoad", name := "swap", desc := "(III)I" } : Jvm.MethodName)) ∈ lw_all := lw_g (lw_at lw_m5 122 rfl) rfl
theorem q1149 : (Jvm.Cond.methodLink "GateRoadLaw" (106 : Nat) ({ cls := "GateRoad", name := "beside", desc := "(IIII)J" } : Jvm.MethodName)) ∈ lw_all := lw_g (lw_at lw_m5 126 rfl) rfl
theorem q1153 : (Jvm.Cond.methodLink "GateRoadLaw" (111 : Nat) ({ cls := "GateRoad", name := "sticks", desc := "(IIIII)J" } : Jvm.MethodName)) ∈ lw_all := lw_g (lw_at lw_m5 130 rfl) rfl
theorem q1162 : (Jvm.Cond.methodLink "GateRoadLaw" (116 : Nat) ({ cls := "GateRoad", name := "shift", desc := "(II)J" } : Jvm.MethodName)) ∈ lw_all := lw_g (lw_at lw_m5 139 rfl) rfl
theorem q1168 : (Jvm.Cond.methodLink "GateRoadLaw" (120 : Nat) ({ cls := "GateRoad", name := "finest", desc := "(IIII)I" } : Jvm.MethodName)) ∈ lw_all := lw_g (lw_at lw_m5 145 rfl) rfl
theorem q1172 : (Jvm.Cond.methodLink "GateRoadLaw" (124 : Nat) ({ cls := "GateRoad", name := "split", desc := "(IIII)J" } : Jvm.MethodName)) ∈ lw_all := lw_g (lw_at lw_m5 149 rfl) rfl
theorem q1176 : (Jvm.Cond.methodLink "GateRoadLaw" (128 : Nat) ({ cls := "GateRoad", name := "count", desc := "(I)I" } : Jvm.MethodName)) ∈ lw_all := lw_g (lw_at lw_m5 153 rfl) rfl
theorem q1180 : (Jvm.Cond.methodLink "GateRoadLaw" (32 : Nat) ({ cls := "GateRoad", name := "wishes", desc := "(II)I" } : Jvm.MethodName)) ∈ lw_all := lw_g (lw_at lw_m5 157 rfl) rfl
theorem q1184 : (Jvm.Cond.methodLink "GateRoadLaw" (132 : Nat) ({ cls := "GateRoad", name := "image", desc := "()I" } : Jvm.MethodName)) ∈ lw_all := lw_g (lw_at lw_m5 161 rfl) rfl
theorem q1188 : (Jvm.Cond.methodLink "GateRoadLaw" (136 : Nat) ({ cls := "GateRoad", name := "back", desc := "()I" } : Jvm.MethodName)) ∈ lw_all := lw_g (lw_at lw_m5 165 rfl) rfl
theorem q1192 : (Jvm.Cond.methodLink "GateRoadLaw" (47 : Nat) ({ cls := "GateRoad", name := "feed", desc := "(JI)I" } : Jvm.MethodName)) ∈ lw_all := lw_g (lw_at lw_m5 169 rfl) rfl
theorem q1196 : (Jvm.Cond.methodLink "GateRoadLaw" (52 : Nat) ({ cls := "GateRoad", name := "text", desc := "()I" } : Jvm.MethodName)) ∈ lw_all := lw_g (lw_at lw_m5 173 rfl) rfl
theorem q1201 : (Jvm.Cond.methodLink "GateRoadLaw" (57 : Nat) ({ cls := "GateRoad", name := "force", desc := "(I)I" } : Jvm.MethodName)) ∈ lw_all := lw_g (lw_at lw_m5 178 rfl) rfl
theorem q1205 : (Jvm.Cond.methodLink "GateRoadLaw" (140 : Nat) ({ cls := "GateRoad", name := "sheet", desc := "(III)I" } : Jvm.MethodName)) ∈ lw_all := lw_g (lw_at lw_m5 182 rfl) rfl
theorem q1213 : (Jvm.Cond.methodLink "GateRoadLaw" (144 : Nat) ({ cls := "GateRoad", name := "cell", desc := "(III)I" } : Jvm.MethodName)) ∈ lw_all := lw_g (lw_at lw_m5 190 rfl) rfl
theorem q1247 : (Jvm.Cond.methodLink "GateRoadLaw" (148 : Nat) ({ cls := "GateRoad", name := "copy", desc := "(IIIII)I" } : Jvm.MethodName)) ∈ lw_all := lw_g (lw_at lw_m5 224 rfl) rfl
theorem q1251 : (Jvm.Cond.methodLink "GateRoadLaw" (153 : Nat) ({ cls := "GateRoad", name := "rates", desc := "(IIII)I" } : Jvm.MethodName)) ∈ lw_all := lw_g (lw_at lw_m5 228 rfl) rfl
theorem q1256 : (Jvm.Cond.methodLink "GateRoadLaw" (157 : Nat) ({ cls := "GateRoad", name := "taken", desc := "(II)I" } : Jvm.MethodName)) ∈ lw_all := lw_g (lw_at lw_m5 233 rfl) rfl
theorem q1312 : (Jvm.Cond.classLink "GateRoadLaw" (10 : Nat) "GateRoadModel") ∈ lw_all := lw_g (lw_at lw_m6 49 rfl) rfl
theorem q1314 : (Jvm.Cond.methodLink "GateRoadLaw" (12 : Nat) ({ cls := "GateRoadModel", name := "<init>", desc := "()V" } : Jvm.MethodName)) ∈ lw_all := lw_g (lw_at lw_m6 51 rfl) rfl
theorem q1484 : (Jvm.Cond.methodLink "GateRoadLaw" (17 : Nat) ({ cls := "GateRoadModel", name := "rate", desc := "(IIII)I" } : Jvm.MethodName)) ∈ lw_all := lw_g (lw_at lw_m6 221 rfl) rfl
theorem q1494 : (Jvm.Cond.methodLink "GateRoadLaw" (22 : Nat) ({ cls := "GateRoadModel", name := "toll", desc := "(III)I" } : Jvm.MethodName)) ∈ lw_all := lw_g (lw_at lw_m6 231 rfl) rfl
theorem q1498 : (Jvm.Cond.methodLink "GateRoadLaw" (26 : Nat) ({ cls := "GateRoadModel", name := "sort", desc := "(IIII)I" } : Jvm.MethodName)) ∈ lw_all := lw_g (lw_at lw_m6 235 rfl) rfl
theorem q1502 : (Jvm.Cond.methodLink "GateRoadLaw" (31 : Nat) ({ cls := "GateRoadModel", name := "cart", desc := "(I)I" } : Jvm.MethodName)) ∈ lw_all := lw_g (lw_at lw_m6 239 rfl) rfl
theorem q1510 : (Jvm.Cond.methodLink "GateRoadLaw" (36 : Nat) ({ cls := "GateRoadModel", name := "wishes", desc := "(II)I" } : Jvm.MethodName)) ∈ lw_all := lw_g (lw_at lw_m7 7 rfl) rfl
theorem q1514 : (Jvm.Cond.methodLink "GateRoadLaw" (40 : Nat) ({ cls := "GateRoadModel", name := "gateTold", desc := "(III)I" } : Jvm.MethodName)) ∈ lw_all := lw_g (lw_at lw_m7 11 rfl) rfl
theorem q1518 : (Jvm.Cond.methodLink "GateRoadLaw" (44 : Nat) ({ cls := "GateRoadModel", name := "sortTold", desc := "(II)I" } : Jvm.MethodName)) ∈ lw_all := lw_g (lw_at lw_m7 15 rfl) rfl
theorem q1522 : (Jvm.Cond.methodLink "GateRoadLaw" (51 : Nat) ({ cls := "GateRoadModel", name := "feed", desc := "(JI)I" } : Jvm.MethodName)) ∈ lw_all := lw_g (lw_at lw_m7 19 rfl) rfl
theorem q1527 : (Jvm.Cond.methodLink "GateRoadLaw" (56 : Nat) ({ cls := "GateRoadModel", name := "text", desc := "()I" } : Jvm.MethodName)) ∈ lw_all := lw_g (lw_at lw_m7 24 rfl) rfl
theorem q1571 : (Jvm.Cond.methodLink "GateRoadLaw" (60 : Nat) ({ cls := "GateRoadModel", name := "force", desc := "(I)I" } : Jvm.MethodName)) ∈ lw_all := lw_g (lw_at lw_m7 68 rfl) rfl
theorem q1575 : (Jvm.Cond.methodLink "GateRoadLaw" (64 : Nat) ({ cls := "GateRoadModel", name := "way", desc := "(II)I" } : Jvm.MethodName)) ∈ lw_all := lw_g (lw_at lw_m7 72 rfl) rfl
theorem q1582 : (Jvm.Cond.methodLink "GateRoadLaw" (68 : Nat) ({ cls := "GateRoadModel", name := "wayTold", desc := "(II)I" } : Jvm.MethodName)) ∈ lw_all := lw_g (lw_at lw_m7 79 rfl) rfl
theorem q1594 : (Jvm.Cond.methodLink "GateRoadLaw" (72 : Nat) ({ cls := "GateRoadModel", name := "set", desc := "(III)I" } : Jvm.MethodName)) ∈ lw_all := lw_g (lw_at lw_m7 91 rfl) rfl
theorem q1598 : (Jvm.Cond.methodLink "GateRoadLaw" (76 : Nat) ({ cls := "GateRoadModel", name := "of", desc := "(III)I" } : Jvm.MethodName)) ∈ lw_all := lw_g (lw_at lw_m7 95 rfl) rfl
theorem q1644 : (Jvm.Cond.methodLink "GateRoadLaw" (80 : Nat) ({ cls := "GateRoadModel", name := "line", desc := "(III)I" } : Jvm.MethodName)) ∈ lw_all := lw_g (lw_at lw_m7 141 rfl) rfl
theorem q1648 : (Jvm.Cond.methodLink "GateRoadLaw" (84 : Nat) ({ cls := "GateRoadModel", name := "passes", desc := "(II)I" } : Jvm.MethodName)) ∈ lw_all := lw_g (lw_at lw_m7 145 rfl) rfl
theorem q1652 : (Jvm.Cond.methodLink "GateRoadLaw" (89 : Nat) ({ cls := "GateRoadModel", name := "sum", desc := "(II)J" } : Jvm.MethodName)) ∈ lw_all := lw_g (lw_at lw_m7 149 rfl) rfl
theorem q1665 : (Jvm.Cond.methodLink "GateRoadLaw" (93 : Nat) ({ cls := "GateRoadModel", name := "judge", desc := "(II)I" } : Jvm.MethodName)) ∈ lw_all := lw_g (lw_at lw_m7 162 rfl) rfl
theorem q1677 : (Jvm.Cond.methodLink "GateRoadLaw" (97 : Nat) ({ cls := "GateRoadModel", name := "rest", desc := "(II)I" } : Jvm.MethodName)) ∈ lw_all := lw_g (lw_at lw_m7 174 rfl) rfl
theorem q1685 : (Jvm.Cond.methodLink "GateRoadLaw" (101 : Nat) ({ cls := "GateRoadModel", name := "other", desc := "(III)I" } : Jvm.MethodName)) ∈ lw_all := lw_g (lw_at lw_m7 182 rfl) rfl
theorem q1689 : (Jvm.Cond.methodLink "GateRoadLaw" (105 : Nat) ({ cls := "GateRoadModel", name := "swap", desc := "(III)I" } : Jvm.MethodName)) ∈ lw_all := lw_g (lw_at lw_m7 186 rfl) rfl
theorem q1693 : (Jvm.Cond.methodLink "GateRoadLaw" (110 : Nat) ({ cls := "GateRoadModel", name := "beside", desc := "(IIII)J" } : Jvm.MethodName)) ∈ lw_all := lw_g (lw_at lw_m7 190 rfl) rfl
theorem q1701 : (Jvm.Cond.methodLink "GateRoadLaw" (115 : Nat) ({ cls := "GateRoadModel", name := "sticks", desc := "(IIIII)J" } : Jvm.MethodName)) ∈ lw_all := lw_g (lw_at lw_m7 198 rfl) rfl
theorem q1709 : (Jvm.Cond.methodLink "GateRoadLaw" (119 : Nat) ({ cls := "GateRoadModel", name := "shift", desc := "(II)J" } : Jvm.MethodName)) ∈ lw_all := lw_g (lw_at lw_m7 206 rfl) rfl
theorem q1713 : (Jvm.Cond.methodLink "GateRoadLaw" (123 : Nat) ({ cls := "GateRoadModel", name := "finest", desc := "(IIII)I" } : Jvm.MethodName)) ∈ lw_all := lw_g (lw_at lw_m7 210 rfl) rfl
theorem q1721 : (Jvm.Cond.methodLink "GateRoadLaw" (127 : Nat) ({ cls := "GateRoadModel", name := "split", desc := "(IIII)J" } : Jvm.MethodName)) ∈ lw_all := lw_g (lw_at lw_m7 218 rfl) rfl
theorem q1725 : (Jvm.Cond.methodLink "GateRoadLaw" (131 : Nat) ({ cls := "GateRoadModel", name := "count", desc := "(I)I" } : Jvm.MethodName)) ∈ lw_all := lw_g (lw_at lw_m7 222 rfl) rfl
theorem q1729 : (Jvm.Cond.methodLink "GateRoadLaw" (135 : Nat) ({ cls := "GateRoadModel", name := "image", desc := "()I" } : Jvm.MethodName)) ∈ lw_all := lw_g (lw_at lw_m7 226 rfl) rfl
theorem q1733 : (Jvm.Cond.methodLink "GateRoadLaw" (139 : Nat) ({ cls := "GateRoadModel", name := "back", desc := "()I" } : Jvm.MethodName)) ∈ lw_all := lw_g (lw_at lw_m7 230 rfl) rfl
theorem q1737 : (Jvm.Cond.methodLink "GateRoadLaw" (143 : Nat) ({ cls := "GateRoadModel", name := "sheet", desc := "(III)I" } : Jvm.MethodName)) ∈ lw_all := lw_g (lw_at lw_m7 234 rfl) rfl
theorem q1741 : (Jvm.Cond.methodLink "GateRoadLaw" (147 : Nat) ({ cls := "GateRoadModel", name := "cell", desc := "(III)I" } : Jvm.MethodName)) ∈ lw_all := lw_g (lw_at lw_m7 238 rfl) rfl
theorem q1745 : (Jvm.Cond.methodLink "GateRoadLaw" (152 : Nat) ({ cls := "GateRoadModel", name := "copy", desc := "(IIIII)I" } : Jvm.MethodName)) ∈ lw_all := lw_g (lw_at lw_m8 2 rfl) rfl
theorem q1749 : (Jvm.Cond.methodLink "GateRoadLaw" (156 : Nat) ({ cls := "GateRoadModel", name := "rates", desc := "(IIII)I" } : Jvm.MethodName)) ∈ lw_all := lw_g (lw_at lw_m8 6 rfl) rfl
theorem q1754 : (Jvm.Cond.methodLink "GateRoadLaw" (160 : Nat) ({ cls := "GateRoadModel", name := "taken", desc := "(II)I" } : Jvm.MethodName)) ∈ lw_all := lw_g (lw_at lw_m8 11 rfl) rfl
theorem q1761 : (Jvm.Cond.constantLong "GateRoadLaw" (45 : Nat) (4294967295 : Int64)) ∈ lw_all := lw_g (lw_at lw_m8 18 rfl) rfl
theorem q1050 : (Jvm.Cond.interfaceMethod "GateRoad$Node" "GateRoad$Node" "worth" "([I)I") ∈ lw_tbl := lw_at lw_m5 27 rfl
set_option maxRecDepth 100000
theorem q1051 : (Jvm.Cond.declares ({ cls := "GateRoad$Node", name := "worth", desc := "([I)I" } : Jvm.MethodName)) ∈ lw_tbl := lw_at lw_m5 28 rfl
theorem q1782 : (Jvm.Cond.castable "GateRoad$Node" "java/lang/Object") ∈ lw_tbl := lw_at lw_m8 39 rfl
theorem q332 : (Jvm.Cond.sameMethod "[B" "java/lang/Object" "clone" "()Ljava/lang/Object;") ∈ lw_all := lw_g (lw_at lw_m2 29 rfl) rfl
set_option maxRecDepth 100000
theorem q335 : (Jvm.Cond.selects "[B" ({ cls := "[B", name := "clone", desc := "()Ljava/lang/Object;" } : Jvm.MethodName) ({ cls := "java/lang/Object", name := "clone", desc := "()Ljava/lang/Object;" } : Jvm.MethodName)) ∈ lw_all := lw_g (lw_at lw_m2 32 rfl) rfl
theorem q336 : (Jvm.Cond.castable "[B" "java/lang/Cloneable") ∈ lw_tbl := lw_at lw_m2 33 rfl
theorem q1809 : (Jvm.Cond.castable "[B" "java/lang/Object") ∈ lw_tbl := lw_at lw_m8 66 rfl
theorem q1805 : (Jvm.Cond.castable "[I" "java/lang/Object") ∈ lw_tbl := lw_at lw_m8 62 rfl
set_option maxRecDepth 100000
theorem q1812 : (Jvm.Cond.castable "[J" "java/lang/Object") ∈ lw_tbl := lw_at lw_m8 69 rfl
set_option maxRecDepth 100000
theorem q1810 : (Jvm.Cond.castable "[LGateRoad$Node;" "java/lang/Object") ∈ lw_tbl := lw_at lw_m8 67 rfl
set_option maxRecDepth 100000
theorem q1808 : (Jvm.Cond.castable "[LGateRoad$Sheet;" "java/lang/Object") ∈ lw_tbl := lw_at lw_m8 65 rfl
set_option maxRecDepth 100000
theorem q1806 : (Jvm.Cond.castable "[LGateRoad$Way;" "java/lang/Object") ∈ lw_tbl := lw_at lw_m8 63 rfl
set_option maxRecDepth 100000
theorem q1802 : (Jvm.Cond.sameMethod "[Ljava/lang/Object;" "java/lang/Object" "getClass" "()Ljava/lang/Class;") ∈ lw_all := lw_g (lw_at lw_m8 59 rfl) rfl
set_option maxRecDepth 100000
theorem q1803 : (Jvm.Cond.selects "[Ljava/lang/Object;" ({ cls := "java/lang/Object", name := "getClass", desc := "()Ljava/lang/Class;" } : Jvm.MethodName) ({ cls := "java/lang/Object", name := "getClass", desc := "()Ljava/lang/Class;" } : Jvm.MethodName)) ∈ lw_all := lw_g (lw_at lw_m8 60 rfl) rfl
theorem q1811 : (Jvm.Cond.castable "[Ljava/lang/Object;" "java/lang/Object") ∈ lw_tbl := lw_at lw_m8 68 rfl
theorem q1813 : (Jvm.Cond.castable "[Ljava/lang/String;" "java/lang/Object") ∈ lw_tbl := lw_at lw_m8 70 rfl
set_option maxRecDepth 100000
theorem q1807 : (Jvm.Cond.castable "[[LGateRoad$Node;" "java/lang/Object") ∈ lw_tbl := lw_at lw_m8 64 rfl
set_option maxRecDepth 100000
theorem q100 : (Jvm.Cond.initialized "java/lang/Short$ShortCache") ∈ lw_all := lw_g (lw_at lw_m1 37 rfl) rfl
set_option maxRecDepth 100000
theorem q1271 : (Jvm.Cond.laysStatic "java/lang/Short$ShortCache" "cache" "[Ljava/lang/Short;") ∈ lw_tbl := lw_at lw_m6 8 rfl
theorem q79 : (Jvm.Cond.initialized "java/lang/System") ∈ lw_all := lw_g (lw_at lw_m1 16 rfl) rfl
set_option maxRecDepth 100000
theorem q342 : (Jvm.Cond.static ({ cls := "java/lang/System", name := "arraycopy", desc := "(Ljava/lang/Object;ILjava/lang/Object;II)V" } : Jvm.MethodName)) ∈ lw_all := lw_g (lw_at lw_m2 39 rfl) rfl
theorem q343 : (Jvm.Cond.native ({ cls := "java/lang/System", name := "arraycopy", desc := "(Ljava/lang/Object;ILjava/lang/Object;II)V" } : Jvm.MethodName)) ∈ lw_all := lw_g (lw_at lw_m2 40 rfl) rfl
theorem q135 : (Jvm.Cond.arrayClass Jvm.ClassFile.FieldType.int) ∈ lw_all := lw_g (lw_at lw_m1 72 rfl) rfl
set_option maxRecDepth 100000
theorem q137 : (Jvm.Cond.arrayOver (Jvm.ClassFile.FieldType.object "GateRoad$Way")) ∈ lw_tbl := lw_at lw_m1 74 rfl
theorem q139 : (Jvm.Cond.arrayOver (Jvm.ClassFile.FieldType.array (Jvm.ClassFile.FieldType.object "GateRoad$Node"))) ∈ lw_tbl := lw_at lw_m1 76 rfl
theorem q141 : (Jvm.Cond.arrayOver (Jvm.ClassFile.FieldType.object "GateRoad$Sheet")) ∈ lw_tbl := lw_at lw_m1 78 rfl
theorem q160 : (Jvm.Cond.arrayClass Jvm.ClassFile.FieldType.byte) ∈ lw_all := lw_g (lw_at lw_m1 97 rfl) rfl
theorem q251 : (Jvm.Cond.arrayOver (Jvm.ClassFile.FieldType.object "GateRoad$Node")) ∈ lw_tbl := lw_at lw_m1 188 rfl
theorem q919 : (Jvm.Cond.arrayOver (Jvm.ClassFile.FieldType.object "java/lang/Object")) ∈ lw_tbl := lw_at lw_m4 136 rfl
theorem q1483 : (Jvm.Cond.arrayClass Jvm.ClassFile.FieldType.long) ∈ lw_all := lw_g (lw_at lw_m6 220 rfl) rfl
theorem q1816 : (Jvm.Cond.arrayOver (Jvm.ClassFile.FieldType.object "java/lang/String")) ∈ lw_tbl := lw_at lw_m8 73 rfl
