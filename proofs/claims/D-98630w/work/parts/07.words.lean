theorem q133 : (Jvm.Cond.initialized "WarByHoursLaw") ∈ lw_all := lw_g (lw_at lw_m1 0 rfl) rfl
set_option maxRecDepth 100000
theorem q176 : (Jvm.Cond.methodLink "WarByHoursLaw" (286 : Nat) ({ cls := "WarByHours", name := "row", desc := "(III)I" } : Jvm.MethodName)) ∈ lw_all := lw_g (lw_at lw_m1 43 rfl) rfl
theorem q282 : (Jvm.Cond.methodLink "WarByHoursLaw" (292 : Nat) ({ cls := "WarByHours", name := "write", desc := "(IIJ)I" } : Jvm.MethodName)) ∈ lw_all := lw_g (lw_at lw_m1 149 rfl) rfl
theorem q361 : (Jvm.Cond.methodLink "WarByHoursLaw" (297 : Nat) ({ cls := "WarByHours", name := "paste", desc := "(IIIII)I" } : Jvm.MethodName)) ∈ lw_all := lw_g (lw_at lw_m1 228 rfl) rfl
theorem q377 : (Jvm.Cond.classLink "WarByHoursLaw" (7 : Nat) "WarByHours") ∈ lw_all := lw_g (lw_at lw_m2 4 rfl) rfl
theorem q379 : (Jvm.Cond.methodLink "WarByHoursLaw" (9 : Nat) ({ cls := "WarByHours", name := "<init>", desc := "()V" } : Jvm.MethodName)) ∈ lw_all := lw_g (lw_at lw_m2 6 rfl) rfl
theorem q684 : (Jvm.Cond.methodLink "WarByHoursLaw" (13 : Nat) ({ cls := "WarByHours", name := "feed", desc := "(IIIII)I" } : Jvm.MethodName)) ∈ lw_all := lw_g (lw_at lw_m3 71 rfl) rfl
theorem q688 : (Jvm.Cond.methodLink "WarByHoursLaw" (18 : Nat) ({ cls := "WarByHours", name := "end", desc := "(I)I" } : Jvm.MethodName)) ∈ lw_all := lw_g (lw_at lw_m3 75 rfl) rfl
theorem q692 : (Jvm.Cond.methodLink "WarByHoursLaw" (23 : Nat) ({ cls := "WarByHours", name := "war", desc := "()I" } : Jvm.MethodName)) ∈ lw_all := lw_g (lw_at lw_m3 79 rfl) rfl
theorem q1075 : (Jvm.Cond.methodLink "WarByHoursLaw" (28 : Nat) ({ cls := "WarByHours", name := "fault", desc := "(I)I" } : Jvm.MethodName)) ∈ lw_all := lw_g (lw_at lw_m4 222 rfl) rfl
theorem q1079 : (Jvm.Cond.methodLink "WarByHoursLaw" (32 : Nat) ({ cls := "WarByHours", name := "train", desc := "(II)I" } : Jvm.MethodName)) ∈ lw_all := lw_g (lw_at lw_m4 226 rfl) rfl
theorem q1116 : (Jvm.Cond.methodLink "WarByHoursLaw" (37 : Nat) ({ cls := "WarByHours", name := "need", desc := "(I)I" } : Jvm.MethodName)) ∈ lw_all := lw_g (lw_at lw_m5 23 rfl) rfl
theorem q1124 : (Jvm.Cond.methodLink "WarByHoursLaw" (41 : Nat) ({ cls := "WarByHours", name := "tea", desc := "(I)I" } : Jvm.MethodName)) ∈ lw_all := lw_g (lw_at lw_m5 31 rfl) rfl
theorem q1137 : (Jvm.Cond.methodLink "WarByHoursLaw" (45 : Nat) ({ cls := "WarByHours", name := "cannon", desc := "(II)I" } : Jvm.MethodName)) ∈ lw_all := lw_g (lw_at lw_m5 44 rfl) rfl
theorem q1142 : (Jvm.Cond.methodLink "WarByHoursLaw" (49 : Nat) ({ cls := "WarByHours", name := "rule", desc := "(II)I" } : Jvm.MethodName)) ∈ lw_all := lw_g (lw_at lw_m5 49 rfl) rfl
theorem q1149 : (Jvm.Cond.methodLink "WarByHoursLaw" (53 : Nat) ({ cls := "WarByHours", name := "spy", desc := "(I)I" } : Jvm.MethodName)) ∈ lw_all := lw_g (lw_at lw_m5 56 rfl) rfl
theorem q1158 : (Jvm.Cond.methodLink "WarByHoursLaw" (57 : Nat) ({ cls := "WarByHours", name := "men", desc := "(III)I" } : Jvm.MethodName)) ∈ lw_all := lw_g (lw_at lw_m5 65 rfl) rfl
theorem q1188 : (Jvm.Cond.methodLink "WarByHoursLaw" (62 : Nat) ({ cls := "WarByHours", name := "front", desc := "(II)I" } : Jvm.MethodName)) ∈ lw_all := lw_g (lw_at lw_m5 95 rfl) rfl
theorem q1201 : (Jvm.Cond.methodLink "WarByHoursLaw" (66 : Nat) ({ cls := "WarByHours", name := "late", desc := "(I)I" } : Jvm.MethodName)) ∈ lw_all := lw_g (lw_at lw_m5 108 rfl) rfl
theorem q1209 : (Jvm.Cond.methodLink "WarByHoursLaw" (70 : Nat) ({ cls := "WarByHours", name := "wins", desc := "(I)I" } : Jvm.MethodName)) ∈ lw_all := lw_g (lw_at lw_m5 116 rfl) rfl
theorem q1221 : (Jvm.Cond.methodLink "WarByHoursLaw" (74 : Nat) ({ cls := "WarByHours", name := "peak", desc := "(II)I" } : Jvm.MethodName)) ∈ lw_all := lw_g (lw_at lw_m5 128 rfl) rfl
theorem q1229 : (Jvm.Cond.methodLink "WarByHoursLaw" (78 : Nat) ({ cls := "WarByHours", name := "swings", desc := "(I)I" } : Jvm.MethodName)) ∈ lw_all := lw_g (lw_at lw_m5 136 rfl) rfl
theorem q1236 : (Jvm.Cond.methodLink "WarByHoursLaw" (82 : Nat) ({ cls := "WarByHours", name := "worst", desc := "(I)I" } : Jvm.MethodName)) ∈ lw_all := lw_g (lw_at lw_m5 143 rfl) rfl
theorem q1253 : (Jvm.Cond.methodLink "WarByHoursLaw" (86 : Nat) ({ cls := "WarByHours", name := "by", desc := "(I)I" } : Jvm.MethodName)) ∈ lw_all := lw_g (lw_at lw_m5 160 rfl) rfl
theorem q1257 : (Jvm.Cond.methodLink "WarByHoursLaw" (90 : Nat) ({ cls := "WarByHours", name := "ways", desc := "(I)I" } : Jvm.MethodName)) ∈ lw_all := lw_g (lw_at lw_m5 164 rfl) rfl
theorem q1261 : (Jvm.Cond.methodLink "WarByHoursLaw" (94 : Nat) ({ cls := "WarByHours", name := "idle", desc := "()I" } : Jvm.MethodName)) ∈ lw_all := lw_g (lw_at lw_m5 168 rfl) rfl
theorem q1265 : (Jvm.Cond.methodLink "WarByHoursLaw" (98 : Nat) ({ cls := "WarByHours", name := "enough", desc := "(II)J" } : Jvm.MethodName)) ∈ lw_all := lw_g (lw_at lw_m5 172 rfl) rfl
theorem q1292 : (Jvm.Cond.methodLink "WarByHoursLaw" (103 : Nat) ({ cls := "WarByHours", name := "chance", desc := "(II)J" } : Jvm.MethodName)) ∈ lw_all := lw_g (lw_at lw_m5 199 rfl) rfl
theorem q1296 : (Jvm.Cond.methodLink "WarByHoursLaw" (107 : Nat) ({ cls := "WarByHours", name := "send", desc := "(I)I" } : Jvm.MethodName)) ∈ lw_all := lw_g (lw_at lw_m5 203 rfl) rfl
theorem q1352 : (Jvm.Cond.methodLink "WarByHoursLaw" (111 : Nat) ({ cls := "WarByHours", name := "sent", desc := "(I)I" } : Jvm.MethodName)) ∈ lw_all := lw_g (lw_at lw_m6 19 rfl) rfl
theorem q1361 : (Jvm.Cond.methodLink "WarByHoursLaw" (115 : Nat) ({ cls := "WarByHours", name := "fewest", desc := "(I)I" } : Jvm.MethodName)) ∈ lw_all := lw_g (lw_at lw_m6 28 rfl) rfl
theorem q1368 : (Jvm.Cond.methodLink "WarByHoursLaw" (119 : Nat) ({ cls := "WarByHours", name := "risk", desc := "(II)I" } : Jvm.MethodName)) ∈ lw_all := lw_g (lw_at lw_m6 35 rfl) rfl
theorem q1383 : (Jvm.Cond.methodLink "WarByHoursLaw" (123 : Nat) ({ cls := "WarByHours", name := "risked", desc := "(II)I" } : Jvm.MethodName)) ∈ lw_all := lw_g (lw_at lw_m6 50 rfl) rfl
theorem q1390 : (Jvm.Cond.methodLink "WarByHoursLaw" (127 : Nat) ({ cls := "WarByHours", name := "bribe", desc := "(I)I" } : Jvm.MethodName)) ∈ lw_all := lw_g (lw_at lw_m6 57 rfl) rfl
theorem q1401 : (Jvm.Cond.methodLink "WarByHoursLaw" (131 : Nat) ({ cls := "WarByHours", name := "bribed", desc := "(I)I" } : Jvm.MethodName)) ∈ lw_all := lw_g (lw_at lw_m6 68 rfl) rfl
theorem q1408 : (Jvm.Cond.methodLink "WarByHoursLaw" (135 : Nat) ({ cls := "WarByHours", name := "guard", desc := "(I)I" } : Jvm.MethodName)) ∈ lw_all := lw_g (lw_at lw_m6 75 rfl) rfl
theorem q1421 : (Jvm.Cond.methodLink "WarByHoursLaw" (139 : Nat) ({ cls := "WarByHours", name := "guarded", desc := "(I)I" } : Jvm.MethodName)) ∈ lw_all := lw_g (lw_at lw_m6 88 rfl) rfl
theorem q1425 : (Jvm.Cond.methodLink "WarByHoursLaw" (143 : Nat) ({ cls := "WarByHours", name := "spoil", desc := "(II)I" } : Jvm.MethodName)) ∈ lw_all := lw_g (lw_at lw_m6 92 rfl) rfl
theorem q1455 : (Jvm.Cond.methodLink "WarByHoursLaw" (147 : Nat) ({ cls := "WarByHours", name := "spoils", desc := "(II)I" } : Jvm.MethodName)) ∈ lw_all := lw_g (lw_at lw_m6 122 rfl) rfl
theorem q1459 : (Jvm.Cond.methodLink "WarByHoursLaw" (151 : Nat) ({ cls := "WarByHours", name := "answer", desc := "(II)I" } : Jvm.MethodName)) ∈ lw_all := lw_g (lw_at lw_m6 126 rfl) rfl
theorem q1471 : (Jvm.Cond.methodLink "WarByHoursLaw" (155 : Nat) ({ cls := "WarByHours", name := "rests", desc := "(I)I" } : Jvm.MethodName)) ∈ lw_all := lw_g (lw_at lw_m6 138 rfl) rfl
theorem q1483 : (Jvm.Cond.methodLink "WarByHoursLaw" (159 : Nat) ({ cls := "WarByHours", name := "since", desc := "(II)I" } : Jvm.MethodName)) ∈ lw_all := lw_g (lw_at lw_m6 150 rfl) rfl
theorem q1487 : (Jvm.Cond.methodLink "WarByHoursLaw" (163 : Nat) ({ cls := "WarByHours", name := "comes", desc := "(II)I" } : Jvm.MethodName)) ∈ lw_all := lw_g (lw_at lw_m6 154 rfl) rfl
theorem q1491 : (Jvm.Cond.methodLink "WarByHoursLaw" (167 : Nat) ({ cls := "WarByHours", name := "even", desc := "(I)J" } : Jvm.MethodName)) ∈ lw_all := lw_g (lw_at lw_m6 158 rfl) rfl
theorem q1495 : (Jvm.Cond.methodLink "WarByHoursLaw" (172 : Nat) ({ cls := "WarByHours", name := "hold", desc := "(II)I" } : Jvm.MethodName)) ∈ lw_all := lw_g (lw_at lw_m6 162 rfl) rfl
theorem q1521 : (Jvm.Cond.methodLink "WarByHoursLaw" (176 : Nat) ({ cls := "WarByHours", name := "holds", desc := "(III)I" } : Jvm.MethodName)) ∈ lw_all := lw_g (lw_at lw_m6 188 rfl) rfl
theorem q1526 : (Jvm.Cond.methodLink "WarByHoursLaw" (180 : Nat) ({ cls := "WarByHours", name := "reply", desc := "(III)I" } : Jvm.MethodName)) ∈ lw_all := lw_g (lw_at lw_m6 193 rfl) rfl
theorem q1530 : (Jvm.Cond.methodLink "WarByHoursLaw" (184 : Nat) ({ cls := "WarByHours", name := "readings", desc := "(I)I" } : Jvm.MethodName)) ∈ lw_all := lw_g (lw_at lw_m6 197 rfl) rfl
theorem q1555 : (Jvm.Cond.methodLink "WarByHoursLaw" (188 : Nat) ({ cls := "WarByHours", name := "loopholes", desc := "()J" } : Jvm.MethodName)) ∈ lw_all := lw_g (lw_at lw_m6 222 rfl) rfl
theorem q1559 : (Jvm.Cond.methodLink "WarByHoursLaw" (193 : Nat) ({ cls := "WarByHours", name := "close", desc := "(I)I" } : Jvm.MethodName)) ∈ lw_all := lw_g (lw_at lw_m6 226 rfl) rfl
theorem q1567 : (Jvm.Cond.methodLink "WarByHoursLaw" (197 : Nat) ({ cls := "WarByHours", name := "closed", desc := "(I)I" } : Jvm.MethodName)) ∈ lw_all := lw_g (lw_at lw_m6 234 rfl) rfl
theorem q1571 : (Jvm.Cond.methodLink "WarByHoursLaw" (201 : Nat) ({ cls := "WarByHours", name := "signs", desc := "()I" } : Jvm.MethodName)) ∈ lw_all := lw_g (lw_at lw_m6 238 rfl) rfl
theorem q1575 : (Jvm.Cond.methodLink "WarByHoursLaw" (205 : Nat) ({ cls := "WarByHours", name := "treaties", desc := "(I)J" } : Jvm.MethodName)) ∈ lw_all := lw_g (lw_at lw_m7 2 rfl) rfl
theorem q1587 : (Jvm.Cond.methodLink "WarByHoursLaw" (209 : Nat) ({ cls := "WarByHours", name := "price", desc := "(II)I" } : Jvm.MethodName)) ∈ lw_all := lw_g (lw_at lw_m7 14 rfl) rfl
theorem q1591 : (Jvm.Cond.methodLink "WarByHoursLaw" (213 : Nat) ({ cls := "WarByHours", name := "spies", desc := "(I)I" } : Jvm.MethodName)) ∈ lw_all := lw_g (lw_at lw_m7 18 rfl) rfl
theorem q1599 : (Jvm.Cond.methodLink "WarByHoursLaw" (217 : Nat) ({ cls := "WarByHours", name := "watch", desc := "(I)I" } : Jvm.MethodName)) ∈ lw_all := lw_g (lw_at lw_m7 26 rfl) rfl
theorem q1607 : (Jvm.Cond.methodLink "WarByHoursLaw" (221 : Nat) ({ cls := "WarByHours", name := "leaves", desc := "(I)I" } : Jvm.MethodName)) ∈ lw_all := lw_g (lw_at lw_m7 34 rfl) rfl
theorem q1611 : (Jvm.Cond.methodLink "WarByHoursLaw" (225 : Nat) ({ cls := "WarByHours", name := "known", desc := "(II)I" } : Jvm.MethodName)) ∈ lw_all := lw_g (lw_at lw_m7 38 rfl) rfl
theorem q1615 : (Jvm.Cond.methodLink "WarByHoursLaw" (229 : Nat) ({ cls := "WarByHours", name := "grant", desc := "()I" } : Jvm.MethodName)) ∈ lw_all := lw_g (lw_at lw_m7 42 rfl) rfl
theorem q1639 : (Jvm.Cond.methodLink "WarByHoursLaw" (233 : Nat) ({ cls := "WarByHours", name := "granted", desc := "()I" } : Jvm.MethodName)) ∈ lw_all := lw_g (lw_at lw_m7 66 rfl) rfl
theorem q1643 : (Jvm.Cond.methodLink "WarByHoursLaw" (237 : Nat) ({ cls := "WarByHours", name := "halves", desc := "()I" } : Jvm.MethodName)) ∈ lw_all := lw_g (lw_at lw_m7 70 rfl) rfl
theorem q1647 : (Jvm.Cond.methodLink "WarByHoursLaw" (241 : Nat) ({ cls := "WarByHours", name := "halved", desc := "()I" } : Jvm.MethodName)) ∈ lw_all := lw_g (lw_at lw_m7 74 rfl) rfl
theorem q1651 : (Jvm.Cond.methodLink "WarByHoursLaw" (245 : Nat) ({ cls := "WarByHours", name := "dry", desc := "(III)J" } : Jvm.MethodName)) ∈ lw_all := lw_g (lw_at lw_m7 78 rfl) rfl
theorem q1655 : (Jvm.Cond.methodLink "WarByHoursLaw" (250 : Nat) ({ cls := "WarByHours", name := "insist", desc := "(I)I" } : Jvm.MethodName)) ∈ lw_all := lw_g (lw_at lw_m7 82 rfl) rfl
theorem q1659 : (Jvm.Cond.methodLink "WarByHoursLaw" (254 : Nat) ({ cls := "WarByHours", name := "tell", desc := "(III)I" } : Jvm.MethodName)) ∈ lw_all := lw_g (lw_at lw_m7 86 rfl) rfl
theorem q1696 : (Jvm.Cond.methodLink "WarByHoursLaw" (258 : Nat) ({ cls := "WarByHours", name := "needs", desc := "(II)I" } : Jvm.MethodName)) ∈ lw_all := lw_g (lw_at lw_m7 123 rfl) rfl
theorem q1700 : (Jvm.Cond.methodLink "WarByHoursLaw" (262 : Nat) ({ cls := "WarByHours", name := "undo", desc := "()I" } : Jvm.MethodName)) ∈ lw_all := lw_g (lw_at lw_m7 127 rfl) rfl
theorem q1718 : (Jvm.Cond.methodLink "WarByHoursLaw" (266 : Nat) ({ cls := "WarByHours", name := "drawn", desc := "(II)I" } : Jvm.MethodName)) ∈ lw_all := lw_g (lw_at lw_m7 145 rfl) rfl
theorem q1739 : (Jvm.Cond.methodLink "WarByHoursLaw" (270 : Nat) ({ cls := "WarByHours", name := "luck", desc := "(III)I" } : Jvm.MethodName)) ∈ lw_all := lw_g (lw_at lw_m7 166 rfl) rfl
theorem q1744 : (Jvm.Cond.methodLink "WarByHoursLaw" (274 : Nat) ({ cls := "WarByHours", name := "count", desc := "(I)I" } : Jvm.MethodName)) ∈ lw_all := lw_g (lw_at lw_m7 171 rfl) rfl
theorem q1748 : (Jvm.Cond.methodLink "WarByHoursLaw" (278 : Nat) ({ cls := "WarByHours", name := "image", desc := "(I)I" } : Jvm.MethodName)) ∈ lw_all := lw_g (lw_at lw_m7 175 rfl) rfl
theorem q1838 : (Jvm.Cond.methodLink "WarByHoursLaw" (282 : Nat) ({ cls := "WarByHours", name := "back", desc := "(I)I" } : Jvm.MethodName)) ∈ lw_all := lw_g (lw_at lw_m8 25 rfl) rfl
theorem q1842 : (Jvm.Cond.classLink "WarByHoursLaw" (10 : Nat) "WarByHoursModel") ∈ lw_all := lw_g (lw_at lw_m8 29 rfl) rfl
theorem q1844 : (Jvm.Cond.methodLink "WarByHoursLaw" (12 : Nat) ({ cls := "WarByHoursModel", name := "<init>", desc := "()V" } : Jvm.MethodName)) ∈ lw_all := lw_g (lw_at lw_m8 31 rfl) rfl
theorem q1945 : (Jvm.Cond.methodLink "WarByHoursLaw" (281 : Nat) ({ cls := "WarByHoursModel", name := "image", desc := "(I)I" } : Jvm.MethodName)) ∈ lw_all := lw_g (lw_at lw_m8 132 rfl) rfl
theorem q1953 : (Jvm.Cond.methodLink "WarByHoursLaw" (285 : Nat) ({ cls := "WarByHoursModel", name := "back", desc := "(I)I" } : Jvm.MethodName)) ∈ lw_all := lw_g (lw_at lw_m8 140 rfl) rfl
theorem q1957 : (Jvm.Cond.methodLink "WarByHoursLaw" (17 : Nat) ({ cls := "WarByHoursModel", name := "feed", desc := "(IIIII)I" } : Jvm.MethodName)) ∈ lw_all := lw_g (lw_at lw_m8 144 rfl) rfl
theorem q1961 : (Jvm.Cond.methodLink "WarByHoursLaw" (22 : Nat) ({ cls := "WarByHoursModel", name := "end", desc := "(I)I" } : Jvm.MethodName)) ∈ lw_all := lw_g (lw_at lw_m8 148 rfl) rfl
theorem q1965 : (Jvm.Cond.methodLink "WarByHoursLaw" (31 : Nat) ({ cls := "WarByHoursModel", name := "fault", desc := "(I)I" } : Jvm.MethodName)) ∈ lw_all := lw_g (lw_at lw_m8 152 rfl) rfl
theorem q1969 : (Jvm.Cond.methodLink "WarByHoursLaw" (27 : Nat) ({ cls := "WarByHoursModel", name := "war", desc := "()I" } : Jvm.MethodName)) ∈ lw_all := lw_g (lw_at lw_m8 156 rfl) rfl
theorem q2070 : (Jvm.Cond.methodLink "WarByHoursLaw" (36 : Nat) ({ cls := "WarByHoursModel", name := "train", desc := "(II)I" } : Jvm.MethodName)) ∈ lw_all := lw_g (lw_at lw_m9 17 rfl) rfl
theorem q2083 : (Jvm.Cond.methodLink "WarByHoursLaw" (40 : Nat) ({ cls := "WarByHoursModel", name := "need", desc := "(I)I" } : Jvm.MethodName)) ∈ lw_all := lw_g (lw_at lw_m9 30 rfl) rfl
theorem q2095 : (Jvm.Cond.methodLink "WarByHoursLaw" (44 : Nat) ({ cls := "WarByHoursModel", name := "tea", desc := "(I)I" } : Jvm.MethodName)) ∈ lw_all := lw_g (lw_at lw_m9 42 rfl) rfl
theorem q2103 : (Jvm.Cond.methodLink "WarByHoursLaw" (48 : Nat) ({ cls := "WarByHoursModel", name := "cannon", desc := "(II)I" } : Jvm.MethodName)) ∈ lw_all := lw_g (lw_at lw_m9 50 rfl) rfl
theorem q2108 : (Jvm.Cond.methodLink "WarByHoursLaw" (52 : Nat) ({ cls := "WarByHoursModel", name := "rule", desc := "(II)I" } : Jvm.MethodName)) ∈ lw_all := lw_g (lw_at lw_m9 55 rfl) rfl
theorem q2112 : (Jvm.Cond.methodLink "WarByHoursLaw" (56 : Nat) ({ cls := "WarByHoursModel", name := "spy", desc := "(I)I" } : Jvm.MethodName)) ∈ lw_all := lw_g (lw_at lw_m9 59 rfl) rfl
theorem q2116 : (Jvm.Cond.methodLink "WarByHoursLaw" (61 : Nat) ({ cls := "WarByHoursModel", name := "men", desc := "(III)I" } : Jvm.MethodName)) ∈ lw_all := lw_g (lw_at lw_m9 63 rfl) rfl
theorem q2143 : (Jvm.Cond.methodLink "WarByHoursLaw" (65 : Nat) ({ cls := "WarByHoursModel", name := "front", desc := "(II)I" } : Jvm.MethodName)) ∈ lw_all := lw_g (lw_at lw_m9 90 rfl) rfl
theorem q2151 : (Jvm.Cond.methodLink "WarByHoursLaw" (69 : Nat) ({ cls := "WarByHoursModel", name := "late", desc := "(I)I" } : Jvm.MethodName)) ∈ lw_all := lw_g (lw_at lw_m9 98 rfl) rfl
theorem q2159 : (Jvm.Cond.methodLink "WarByHoursLaw" (73 : Nat) ({ cls := "WarByHoursModel", name := "wins", desc := "(I)I" } : Jvm.MethodName)) ∈ lw_all := lw_g (lw_at lw_m9 106 rfl) rfl
theorem q2171 : (Jvm.Cond.methodLink "WarByHoursLaw" (77 : Nat) ({ cls := "WarByHoursModel", name := "peak", desc := "(II)I" } : Jvm.MethodName)) ∈ lw_all := lw_g (lw_at lw_m9 118 rfl) rfl
theorem q2178 : (Jvm.Cond.methodLink "WarByHoursLaw" (81 : Nat) ({ cls := "WarByHoursModel", name := "swings", desc := "(I)I" } : Jvm.MethodName)) ∈ lw_all := lw_g (lw_at lw_m9 125 rfl) rfl
theorem q2182 : (Jvm.Cond.methodLink "WarByHoursLaw" (162 : Nat) ({ cls := "WarByHoursModel", name := "since", desc := "(II)I" } : Jvm.MethodName)) ∈ lw_all := lw_g (lw_at lw_m9 129 rfl) rfl
theorem q2186 : (Jvm.Cond.methodLink "WarByHoursLaw" (166 : Nat) ({ cls := "WarByHoursModel", name := "comes", desc := "(II)I" } : Jvm.MethodName)) ∈ lw_all := lw_g (lw_at lw_m9 133 rfl) rfl
theorem q2190 : (Jvm.Cond.methodLink "WarByHoursLaw" (171 : Nat) ({ cls := "WarByHoursModel", name := "even", desc := "(I)J" } : Jvm.MethodName)) ∈ lw_all := lw_g (lw_at lw_m9 137 rfl) rfl
theorem q2195 : (Jvm.Cond.methodLink "WarByHoursLaw" (85 : Nat) ({ cls := "WarByHoursModel", name := "worst", desc := "(I)I" } : Jvm.MethodName)) ∈ lw_all := lw_g (lw_at lw_m9 142 rfl) rfl
theorem q2207 : (Jvm.Cond.methodLink "WarByHoursLaw" (89 : Nat) ({ cls := "WarByHoursModel", name := "by", desc := "(I)I" } : Jvm.MethodName)) ∈ lw_all := lw_g (lw_at lw_m9 154 rfl) rfl
theorem q2211 : (Jvm.Cond.methodLink "WarByHoursLaw" (93 : Nat) ({ cls := "WarByHoursModel", name := "ways", desc := "(I)I" } : Jvm.MethodName)) ∈ lw_all := lw_g (lw_at lw_m9 158 rfl) rfl
theorem q2215 : (Jvm.Cond.methodLink "WarByHoursLaw" (97 : Nat) ({ cls := "WarByHoursModel", name := "idle", desc := "()I" } : Jvm.MethodName)) ∈ lw_all := lw_g (lw_at lw_m9 162 rfl) rfl
theorem q2219 : (Jvm.Cond.methodLink "WarByHoursLaw" (102 : Nat) ({ cls := "WarByHoursModel", name := "enough", desc := "(II)J" } : Jvm.MethodName)) ∈ lw_all := lw_g (lw_at lw_m9 166 rfl) rfl
theorem q2238 : (Jvm.Cond.methodLink "WarByHoursLaw" (106 : Nat) ({ cls := "WarByHoursModel", name := "chance", desc := "(II)J" } : Jvm.MethodName)) ∈ lw_all := lw_g (lw_at lw_m9 185 rfl) rfl
theorem q2242 : (Jvm.Cond.methodLink "WarByHoursLaw" (110 : Nat) ({ cls := "WarByHoursModel", name := "send", desc := "(I)I" } : Jvm.MethodName)) ∈ lw_all := lw_g (lw_at lw_m9 189 rfl) rfl
theorem q2274 : (Jvm.Cond.methodLink "WarByHoursLaw" (114 : Nat) ({ cls := "WarByHoursModel", name := "sent", desc := "(I)I" } : Jvm.MethodName)) ∈ lw_all := lw_g (lw_at lw_m9 221 rfl) rfl
theorem q2278 : (Jvm.Cond.methodLink "WarByHoursLaw" (118 : Nat) ({ cls := "WarByHoursModel", name := "fewest", desc := "(I)I" } : Jvm.MethodName)) ∈ lw_all := lw_g (lw_at lw_m9 225 rfl) rfl
theorem q2282 : (Jvm.Cond.methodLink "WarByHoursLaw" (122 : Nat) ({ cls := "WarByHoursModel", name := "risk", desc := "(II)I" } : Jvm.MethodName)) ∈ lw_all := lw_g (lw_at lw_m9 229 rfl) rfl
theorem q2298 : (Jvm.Cond.methodLink "WarByHoursLaw" (126 : Nat) ({ cls := "WarByHoursModel", name := "risked", desc := "(II)I" } : Jvm.MethodName)) ∈ lw_all := lw_g (lw_at lw_m10 5 rfl) rfl
theorem q2302 : (Jvm.Cond.methodLink "WarByHoursLaw" (130 : Nat) ({ cls := "WarByHoursModel", name := "bribe", desc := "(I)I" } : Jvm.MethodName)) ∈ lw_all := lw_g (lw_at lw_m10 9 rfl) rfl
theorem q2310 : (Jvm.Cond.methodLink "WarByHoursLaw" (134 : Nat) ({ cls := "WarByHoursModel", name := "bribed", desc := "(I)I" } : Jvm.MethodName)) ∈ lw_all := lw_g (lw_at lw_m10 17 rfl) rfl
theorem q2314 : (Jvm.Cond.methodLink "WarByHoursLaw" (138 : Nat) ({ cls := "WarByHoursModel", name := "guard", desc := "(I)I" } : Jvm.MethodName)) ∈ lw_all := lw_g (lw_at lw_m10 21 rfl) rfl
theorem q2322 : (Jvm.Cond.methodLink "WarByHoursLaw" (142 : Nat) ({ cls := "WarByHoursModel", name := "guarded", desc := "(I)I" } : Jvm.MethodName)) ∈ lw_all := lw_g (lw_at lw_m10 29 rfl) rfl
theorem q2326 : (Jvm.Cond.methodLink "WarByHoursLaw" (146 : Nat) ({ cls := "WarByHoursModel", name := "spoil", desc := "(II)I" } : Jvm.MethodName)) ∈ lw_all := lw_g (lw_at lw_m10 33 rfl) rfl
theorem q2346 : (Jvm.Cond.methodLink "WarByHoursLaw" (150 : Nat) ({ cls := "WarByHoursModel", name := "spoils", desc := "(II)I" } : Jvm.MethodName)) ∈ lw_all := lw_g (lw_at lw_m10 53 rfl) rfl
theorem q2350 : (Jvm.Cond.methodLink "WarByHoursLaw" (154 : Nat) ({ cls := "WarByHoursModel", name := "answer", desc := "(II)I" } : Jvm.MethodName)) ∈ lw_all := lw_g (lw_at lw_m10 57 rfl) rfl
theorem q2360 : (Jvm.Cond.methodLink "WarByHoursLaw" (158 : Nat) ({ cls := "WarByHoursModel", name := "rests", desc := "(I)I" } : Jvm.MethodName)) ∈ lw_all := lw_g (lw_at lw_m10 67 rfl) rfl
theorem q2364 : (Jvm.Cond.methodLink "WarByHoursLaw" (175 : Nat) ({ cls := "WarByHoursModel", name := "hold", desc := "(II)I" } : Jvm.MethodName)) ∈ lw_all := lw_g (lw_at lw_m10 71 rfl) rfl
theorem q2383 : (Jvm.Cond.methodLink "WarByHoursLaw" (179 : Nat) ({ cls := "WarByHoursModel", name := "holds", desc := "(III)I" } : Jvm.MethodName)) ∈ lw_all := lw_g (lw_at lw_m10 90 rfl) rfl
theorem q2387 : (Jvm.Cond.methodLink "WarByHoursLaw" (183 : Nat) ({ cls := "WarByHoursModel", name := "reply", desc := "(III)I" } : Jvm.MethodName)) ∈ lw_all := lw_g (lw_at lw_m10 94 rfl) rfl
theorem q2391 : (Jvm.Cond.methodLink "WarByHoursLaw" (187 : Nat) ({ cls := "WarByHoursModel", name := "readings", desc := "(I)I" } : Jvm.MethodName)) ∈ lw_all := lw_g (lw_at lw_m10 98 rfl) rfl
theorem q2412 : (Jvm.Cond.methodLink "WarByHoursLaw" (192 : Nat) ({ cls := "WarByHoursModel", name := "loopholes", desc := "()J" } : Jvm.MethodName)) ∈ lw_all := lw_g (lw_at lw_m10 119 rfl) rfl
theorem q2416 : (Jvm.Cond.methodLink "WarByHoursLaw" (196 : Nat) ({ cls := "WarByHoursModel", name := "close", desc := "(I)I" } : Jvm.MethodName)) ∈ lw_all := lw_g (lw_at lw_m10 123 rfl) rfl
theorem q2424 : (Jvm.Cond.methodLink "WarByHoursLaw" (200 : Nat) ({ cls := "WarByHoursModel", name := "closed", desc := "(I)I" } : Jvm.MethodName)) ∈ lw_all := lw_g (lw_at lw_m10 131 rfl) rfl
theorem q2428 : (Jvm.Cond.methodLink "WarByHoursLaw" (204 : Nat) ({ cls := "WarByHoursModel", name := "signs", desc := "()I" } : Jvm.MethodName)) ∈ lw_all := lw_g (lw_at lw_m10 135 rfl) rfl
theorem q2432 : (Jvm.Cond.methodLink "WarByHoursLaw" (208 : Nat) ({ cls := "WarByHoursModel", name := "treaties", desc := "(I)J" } : Jvm.MethodName)) ∈ lw_all := lw_g (lw_at lw_m10 139 rfl) rfl
theorem q2441 : (Jvm.Cond.methodLink "WarByHoursLaw" (212 : Nat) ({ cls := "WarByHoursModel", name := "price", desc := "(II)I" } : Jvm.MethodName)) ∈ lw_all := lw_g (lw_at lw_m10 148 rfl) rfl
theorem q2445 : (Jvm.Cond.methodLink "WarByHoursLaw" (216 : Nat) ({ cls := "WarByHoursModel", name := "spies", desc := "(I)I" } : Jvm.MethodName)) ∈ lw_all := lw_g (lw_at lw_m10 152 rfl) rfl
theorem q2453 : (Jvm.Cond.methodLink "WarByHoursLaw" (220 : Nat) ({ cls := "WarByHoursModel", name := "watch", desc := "(I)I" } : Jvm.MethodName)) ∈ lw_all := lw_g (lw_at lw_m10 160 rfl) rfl
theorem q2465 : (Jvm.Cond.methodLink "WarByHoursLaw" (224 : Nat) ({ cls := "WarByHoursModel", name := "leaves", desc := "(I)I" } : Jvm.MethodName)) ∈ lw_all := lw_g (lw_at lw_m10 172 rfl) rfl
theorem q2469 : (Jvm.Cond.methodLink "WarByHoursLaw" (228 : Nat) ({ cls := "WarByHoursModel", name := "known", desc := "(II)I" } : Jvm.MethodName)) ∈ lw_all := lw_g (lw_at lw_m10 176 rfl) rfl
theorem q2473 : (Jvm.Cond.methodLink "WarByHoursLaw" (232 : Nat) ({ cls := "WarByHoursModel", name := "grant", desc := "()I" } : Jvm.MethodName)) ∈ lw_all := lw_g (lw_at lw_m10 180 rfl) rfl
theorem q2497 : (Jvm.Cond.methodLink "WarByHoursLaw" (236 : Nat) ({ cls := "WarByHoursModel", name := "granted", desc := "()I" } : Jvm.MethodName)) ∈ lw_all := lw_g (lw_at lw_m10 204 rfl) rfl
theorem q2501 : (Jvm.Cond.methodLink "WarByHoursLaw" (240 : Nat) ({ cls := "WarByHoursModel", name := "halves", desc := "()I" } : Jvm.MethodName)) ∈ lw_all := lw_g (lw_at lw_m10 208 rfl) rfl
theorem q2505 : (Jvm.Cond.methodLink "WarByHoursLaw" (244 : Nat) ({ cls := "WarByHoursModel", name := "halved", desc := "()I" } : Jvm.MethodName)) ∈ lw_all := lw_g (lw_at lw_m10 212 rfl) rfl
theorem q2509 : (Jvm.Cond.methodLink "WarByHoursLaw" (249 : Nat) ({ cls := "WarByHoursModel", name := "dry", desc := "(III)J" } : Jvm.MethodName)) ∈ lw_all := lw_g (lw_at lw_m10 216 rfl) rfl
theorem q2513 : (Jvm.Cond.methodLink "WarByHoursLaw" (253 : Nat) ({ cls := "WarByHoursModel", name := "insist", desc := "(I)I" } : Jvm.MethodName)) ∈ lw_all := lw_g (lw_at lw_m10 220 rfl) rfl
theorem q2517 : (Jvm.Cond.methodLink "WarByHoursLaw" (257 : Nat) ({ cls := "WarByHoursModel", name := "tell", desc := "(III)I" } : Jvm.MethodName)) ∈ lw_all := lw_g (lw_at lw_m10 224 rfl) rfl
theorem q2529 : (Jvm.Cond.methodLink "WarByHoursLaw" (261 : Nat) ({ cls := "WarByHoursModel", name := "needs", desc := "(II)I" } : Jvm.MethodName)) ∈ lw_all := lw_g (lw_at lw_m10 236 rfl) rfl
theorem q2533 : (Jvm.Cond.methodLink "WarByHoursLaw" (265 : Nat) ({ cls := "WarByHoursModel", name := "undo", desc := "()I" } : Jvm.MethodName)) ∈ lw_all := lw_g (lw_at lw_m11 0 rfl) rfl
theorem q2537 : (Jvm.Cond.methodLink "WarByHoursLaw" (269 : Nat) ({ cls := "WarByHoursModel", name := "drawn", desc := "(II)I" } : Jvm.MethodName)) ∈ lw_all := lw_g (lw_at lw_m11 4 rfl) rfl
theorem q2554 : (Jvm.Cond.methodLink "WarByHoursLaw" (273 : Nat) ({ cls := "WarByHoursModel", name := "luck", desc := "(III)I" } : Jvm.MethodName)) ∈ lw_all := lw_g (lw_at lw_m11 21 rfl) rfl
theorem q2559 : (Jvm.Cond.methodLink "WarByHoursLaw" (277 : Nat) ({ cls := "WarByHoursModel", name := "count", desc := "(I)I" } : Jvm.MethodName)) ∈ lw_all := lw_g (lw_at lw_m11 26 rfl) rfl
theorem q2563 : (Jvm.Cond.methodLink "WarByHoursLaw" (289 : Nat) ({ cls := "WarByHoursModel", name := "row", desc := "(III)I" } : Jvm.MethodName)) ∈ lw_all := lw_g (lw_at lw_m11 30 rfl) rfl
theorem q2570 : (Jvm.Cond.methodLink "WarByHoursLaw" (296 : Nat) ({ cls := "WarByHoursModel", name := "write", desc := "(IIJ)I" } : Jvm.MethodName)) ∈ lw_all := lw_g (lw_at lw_m11 37 rfl) rfl
theorem q2577 : (Jvm.Cond.methodLink "WarByHoursLaw" (300 : Nat) ({ cls := "WarByHoursModel", name := "paste", desc := "(IIIII)I" } : Jvm.MethodName)) ∈ lw_all := lw_g (lw_at lw_m11 44 rfl) rfl
theorem q2581 : (Jvm.Cond.constantLong "WarByHoursLaw" (290 : Nat) (4294967295 : Int64)) ∈ lw_all := lw_g (lw_at lw_m11 48 rfl) rfl

theorem q2614 : (Jvm.Cond.castable "[B" "java/lang/Object") ∈ lw_tbl := lw_at lw_m11 81 rfl
set_option maxRecDepth 100000

theorem q2616 : (Jvm.Cond.castable "[I" "java/lang/Object") ∈ lw_tbl := lw_at lw_m11 83 rfl
set_option maxRecDepth 100000

theorem q2617 : (Jvm.Cond.castable "[J" "java/lang/Object") ∈ lw_tbl := lw_at lw_m11 84 rfl
set_option maxRecDepth 100000

theorem q2618 : (Jvm.Cond.castable "[LWarByHours$Slot;" "java/lang/Object") ∈ lw_tbl := lw_at lw_m11 85 rfl
set_option maxRecDepth 100000

theorem q2620 : (Jvm.Cond.castable "[LWarByHours$War;" "java/lang/Object") ∈ lw_tbl := lw_at lw_m11 87 rfl
set_option maxRecDepth 100000

theorem q2611 : (Jvm.Cond.sameMethod "[Ljava/lang/Object;" "java/lang/Object" "getClass" "()Ljava/lang/Class;") ∈ lw_all := lw_g (lw_at lw_m11 78 rfl) rfl
set_option maxRecDepth 100000
theorem q2612 : (Jvm.Cond.selects "[Ljava/lang/Object;" ({ cls := "java/lang/Object", name := "getClass", desc := "()Ljava/lang/Class;" } : Jvm.MethodName) ({ cls := "java/lang/Object", name := "getClass", desc := "()Ljava/lang/Class;" } : Jvm.MethodName)) ∈ lw_all := lw_g (lw_at lw_m11 79 rfl) rfl
theorem q2619 : (Jvm.Cond.castable "[Ljava/lang/Object;" "java/lang/Object") ∈ lw_tbl := lw_at lw_m11 86 rfl

theorem q2615 : (Jvm.Cond.castable "[S" "java/lang/Object") ∈ lw_tbl := lw_at lw_m11 82 rfl
set_option maxRecDepth 100000

theorem q2621 : (Jvm.Cond.castable "[Z" "java/lang/Object") ∈ lw_tbl := lw_at lw_m11 88 rfl
set_option maxRecDepth 100000

theorem q166 : (Jvm.Cond.initialized "java/lang/Integer$IntegerCache") ∈ lw_all := lw_g (lw_at lw_m1 33 rfl) rfl
set_option maxRecDepth 100000
theorem q1032 : (Jvm.Cond.laysStatic "java/lang/Integer$IntegerCache" "high" "I") ∈ lw_tbl := lw_at lw_m4 179 rfl
theorem q1034 : (Jvm.Cond.laysStatic "java/lang/Integer$IntegerCache" "cache" "[Ljava/lang/Integer;") ∈ lw_tbl := lw_at lw_m4 181 rfl

theorem q162 : (Jvm.Cond.initialized "java/lang/System") ∈ lw_all := lw_g (lw_at lw_m1 29 rfl) rfl
set_option maxRecDepth 100000
theorem q375 : (Jvm.Cond.static ({ cls := "java/lang/System", name := "arraycopy", desc := "(Ljava/lang/Object;ILjava/lang/Object;II)V" } : Jvm.MethodName)) ∈ lw_all := lw_g (lw_at lw_m2 2 rfl) rfl
theorem q376 : (Jvm.Cond.native ({ cls := "java/lang/System", name := "arraycopy", desc := "(Ljava/lang/Object;ILjava/lang/Object;II)V" } : Jvm.MethodName)) ∈ lw_all := lw_g (lw_at lw_m2 3 rfl) rfl

theorem q1829 : (Jvm.Cond.interfaceMethod "java/util/Collection" "java/util/Collection" "toArray" "()[Ljava/lang/Object;") ∈ lw_tbl := lw_at lw_m8 16 rfl
set_option maxRecDepth 100000
theorem q1830 : (Jvm.Cond.declares ({ cls := "java/util/Collection", name := "toArray", desc := "()[Ljava/lang/Object;" } : Jvm.MethodName)) ∈ lw_tbl := lw_at lw_m8 17 rfl

theorem q1788 : (Jvm.Cond.interfaceMethod "java/util/Iterator" "java/util/Iterator" "hasNext" "()Z") ∈ lw_tbl := lw_at lw_m7 215 rfl
set_option maxRecDepth 100000
theorem q1789 : (Jvm.Cond.declares ({ cls := "java/util/Iterator", name := "hasNext", desc := "()Z" } : Jvm.MethodName)) ∈ lw_tbl := lw_at lw_m7 216 rfl
theorem q1798 : (Jvm.Cond.interfaceMethod "java/util/Iterator" "java/util/Iterator" "next" "()Ljava/lang/Object;") ∈ lw_tbl := lw_at lw_m7 225 rfl
theorem q1799 : (Jvm.Cond.declares ({ cls := "java/util/Iterator", name := "next", desc := "()Ljava/lang/Object;" } : Jvm.MethodName)) ∈ lw_tbl := lw_at lw_m7 226 rfl

theorem q863 : (Jvm.Cond.interfaceMethod "java/util/List" "java/util/List" "size" "()I") ∈ lw_tbl := lw_at lw_m4 10 rfl
set_option maxRecDepth 100000
theorem q864 : (Jvm.Cond.declares ({ cls := "java/util/List", name := "size", desc := "()I" } : Jvm.MethodName)) ∈ lw_tbl := lw_at lw_m4 11 rfl
theorem q923 : (Jvm.Cond.interfaceMethod "java/util/List" "java/util/List" "add" "(Ljava/lang/Object;)Z") ∈ lw_tbl := lw_at lw_m4 70 rfl
theorem q924 : (Jvm.Cond.declares ({ cls := "java/util/List", name := "add", desc := "(Ljava/lang/Object;)Z" } : Jvm.MethodName)) ∈ lw_tbl := lw_at lw_m4 71 rfl
theorem q1100 : (Jvm.Cond.interfaceMethod "java/util/List" "java/util/List" "get" "(I)Ljava/lang/Object;") ∈ lw_tbl := lw_at lw_m5 7 rfl
theorem q1101 : (Jvm.Cond.declares ({ cls := "java/util/List", name := "get", desc := "(I)Ljava/lang/Object;" } : Jvm.MethodName)) ∈ lw_tbl := lw_at lw_m5 8 rfl
theorem q1706 : (Jvm.Cond.interfaceMethod "java/util/List" "java/util/List" "remove" "(I)Ljava/lang/Object;") ∈ lw_tbl := lw_at lw_m7 133 rfl
theorem q1707 : (Jvm.Cond.declares ({ cls := "java/util/List", name := "remove", desc := "(I)Ljava/lang/Object;" } : Jvm.MethodName)) ∈ lw_tbl := lw_at lw_m7 134 rfl
theorem q1760 : (Jvm.Cond.interfaceMethod "java/util/List" "java/util/List" "iterator" "()Ljava/util/Iterator;") ∈ lw_tbl := lw_at lw_m7 187 rfl
theorem q1761 : (Jvm.Cond.declares ({ cls := "java/util/List", name := "iterator", desc := "()Ljava/util/Iterator;" } : Jvm.MethodName)) ∈ lw_tbl := lw_at lw_m7 188 rfl
theorem q1820 : (Jvm.Cond.interfaceMethod "java/util/List" "java/util/List" "addAll" "(Ljava/util/Collection;)Z") ∈ lw_tbl := lw_at lw_m8 7 rfl
theorem q1821 : (Jvm.Cond.declares ({ cls := "java/util/List", name := "addAll", desc := "(Ljava/util/Collection;)Z" } : Jvm.MethodName)) ∈ lw_tbl := lw_at lw_m8 8 rfl

theorem q274 : (Jvm.Cond.arrayClass Jvm.ClassFile.FieldType.byte) ∈ lw_all := lw_g (lw_at lw_m1 141 rfl) rfl
set_option maxRecDepth 100000
theorem q279 : (Jvm.Cond.arrayClass Jvm.ClassFile.FieldType.short) ∈ lw_all := lw_g (lw_at lw_m1 146 rfl) rfl
theorem q280 : (Jvm.Cond.arrayClass Jvm.ClassFile.FieldType.int) ∈ lw_all := lw_g (lw_at lw_m1 147 rfl) rfl
theorem q281 : (Jvm.Cond.arrayClass Jvm.ClassFile.FieldType.long) ∈ lw_all := lw_g (lw_at lw_m1 148 rfl) rfl
theorem q384 : (Jvm.Cond.arrayOver (Jvm.ClassFile.FieldType.object "WarByHours$Slot")) ∈ lw_tbl := lw_at lw_m2 11 rfl
theorem q413 : (Jvm.Cond.arrayOver (Jvm.ClassFile.FieldType.object "java/lang/Object")) ∈ lw_tbl := lw_at lw_m2 40 rfl
theorem q501 : (Jvm.Cond.arrayOver (Jvm.ClassFile.FieldType.object "WarByHours$War")) ∈ lw_tbl := lw_at lw_m2 128 rfl
theorem q1944 : (Jvm.Cond.arrayClass Jvm.ClassFile.FieldType.boolean) ∈ lw_all := lw_g (lw_at lw_m8 131 rfl) rfl
