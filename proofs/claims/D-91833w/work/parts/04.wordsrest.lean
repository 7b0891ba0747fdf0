set_option maxRecDepth 100000
theorem q220 : (Jvm.Cond.arrayClass Jvm.ClassFile.FieldType.byte) ∈ lw_all := lw_g (lw_at lw_m1 137 rfl) rfl
set_option maxRecDepth 100000
theorem q225 : (Jvm.Cond.arrayClass Jvm.ClassFile.FieldType.short) ∈ lw_all := lw_g (lw_at lw_m1 142 rfl) rfl
theorem q226 : (Jvm.Cond.arrayClass Jvm.ClassFile.FieldType.int) ∈ lw_all := lw_g (lw_at lw_m1 143 rfl) rfl
theorem q227 : (Jvm.Cond.arrayClass Jvm.ClassFile.FieldType.long) ∈ lw_all := lw_g (lw_at lw_m1 144 rfl) rfl
theorem q330 : (Jvm.Cond.arrayOver (Jvm.ClassFile.FieldType.object "NonsenseRows$Slot")) ∈ lw_tbl := lw_at lw_m2 7 rfl
theorem q344 : (Jvm.Cond.arrayOver (Jvm.ClassFile.FieldType.array (Jvm.ClassFile.FieldType.object "NonsenseRows$Sum"))) ∈ lw_tbl := lw_at lw_m2 21 rfl
theorem q345 : (Jvm.Cond.arrayOver (Jvm.ClassFile.FieldType.object "NonsenseRows$Sum")) ∈ lw_tbl := lw_at lw_m2 22 rfl
theorem q384 : (Jvm.Cond.arrayClass Jvm.ClassFile.FieldType.boolean) ∈ lw_all := lw_g (lw_at lw_m2 61 rfl) rfl
theorem q398 : (Jvm.Cond.arrayOver (Jvm.ClassFile.FieldType.object "java/lang/Object")) ∈ lw_tbl := lw_at lw_m2 75 rfl
theorem q420 : (Jvm.Cond.arrayOver (Jvm.ClassFile.FieldType.array (Jvm.ClassFile.FieldType.array Jvm.ClassFile.FieldType.int))) ∈ lw_tbl := lw_at lw_m2 97 rfl
theorem q421 : (Jvm.Cond.arrayOver (Jvm.ClassFile.FieldType.array Jvm.ClassFile.FieldType.int)) ∈ lw_tbl := lw_at lw_m2 98 rfl
theorem q506 : (Jvm.Cond.arrayOver (Jvm.ClassFile.FieldType.object "NonsenseRows$State")) ∈ lw_tbl := lw_at lw_m2 183 rfl
theorem q576 : (Jvm.Cond.arrayOver (Jvm.ClassFile.FieldType.object "java/lang/String")) ∈ lw_tbl := lw_at lw_m3 13 rfl

theorem q83 : (Jvm.Cond.initialized "NonsenseRowsLaw") ∈ lw_all := lw_g (lw_at lw_m1 0 rfl) rfl
set_option maxRecDepth 100000
theorem q122 : (Jvm.Cond.methodLink "NonsenseRowsLaw" (185 : Nat) ({ cls := "NonsenseRows", name := "row", desc := "(III)I" } : Jvm.MethodName)) ∈ lw_all := lw_g (lw_at lw_m1 39 rfl) rfl
theorem q228 : (Jvm.Cond.methodLink "NonsenseRowsLaw" (191 : Nat) ({ cls := "NonsenseRows", name := "write", desc := "(IIJ)I" } : Jvm.MethodName)) ∈ lw_all := lw_g (lw_at lw_m1 145 rfl) rfl
theorem q307 : (Jvm.Cond.methodLink "NonsenseRowsLaw" (196 : Nat) ({ cls := "NonsenseRows", name := "paste", desc := "(IIIII)I" } : Jvm.MethodName)) ∈ lw_all := lw_g (lw_at lw_m1 224 rfl) rfl
theorem q323 : (Jvm.Cond.classLink "NonsenseRowsLaw" (7 : Nat) "NonsenseRows") ∈ lw_all := lw_g (lw_at lw_m2 0 rfl) rfl
theorem q325 : (Jvm.Cond.methodLink "NonsenseRowsLaw" (9 : Nat) ({ cls := "NonsenseRows", name := "<init>", desc := "()V" } : Jvm.MethodName)) ∈ lw_all := lw_g (lw_at lw_m2 2 rfl) rfl
theorem q552 : (Jvm.Cond.methodLink "NonsenseRowsLaw" (13 : Nat) ({ cls := "NonsenseRows", name := "feed", desc := "(IIIII)I" } : Jvm.MethodName)) ∈ lw_all := lw_g (lw_at lw_m2 229 rfl) rfl
theorem q560 : (Jvm.Cond.methodLink "NonsenseRowsLaw" (18 : Nat) ({ cls := "NonsenseRows", name := "end", desc := "(I)I" } : Jvm.MethodName)) ∈ lw_all := lw_g (lw_at lw_m2 237 rfl) rfl
theorem q564 : (Jvm.Cond.methodLink "NonsenseRowsLaw" (23 : Nat) ({ cls := "NonsenseRows", name := "text", desc := "()I" } : Jvm.MethodName)) ∈ lw_all := lw_g (lw_at lw_m3 1 rfl) rfl
theorem q975 : (Jvm.Cond.methodLink "NonsenseRowsLaw" (28 : Nat) ({ cls := "NonsenseRows", name := "fault", desc := "(I)I" } : Jvm.MethodName)) ∈ lw_all := lw_g (lw_at lw_m4 172 rfl) rfl
theorem q979 : (Jvm.Cond.methodLink "NonsenseRowsLaw" (32 : Nat) ({ cls := "NonsenseRows", name := "read", desc := "(II)I" } : Jvm.MethodName)) ∈ lw_all := lw_g (lw_at lw_m4 176 rfl) rfl
theorem q1132 : (Jvm.Cond.methodLink "NonsenseRowsLaw" (37 : Nat) ({ cls := "NonsenseRows", name := "learn", desc := "(I)I" } : Jvm.MethodName)) ∈ lw_all := lw_g (lw_at lw_m5 89 rfl) rfl
theorem q1142 : (Jvm.Cond.methodLink "NonsenseRowsLaw" (41 : Nat) ({ cls := "NonsenseRows", name := "waits", desc := "(I)I" } : Jvm.MethodName)) ∈ lw_all := lw_g (lw_at lw_m5 99 rfl) rfl
theorem q1154 : (Jvm.Cond.methodLink "NonsenseRowsLaw" (45 : Nat) ({ cls := "NonsenseRows", name := "strength", desc := "(III)I" } : Jvm.MethodName)) ∈ lw_all := lw_g (lw_at lw_m5 111 rfl) rfl
theorem q1166 : (Jvm.Cond.methodLink "NonsenseRowsLaw" (50 : Nat) ({ cls := "NonsenseRows", name := "links", desc := "(I)I" } : Jvm.MethodName)) ∈ lw_all := lw_g (lw_at lw_m5 123 rfl) rfl
theorem q1174 : (Jvm.Cond.methodLink "NonsenseRowsLaw" (54 : Nat) ({ cls := "NonsenseRows", name := "support", desc := "(II)I" } : Jvm.MethodName)) ∈ lw_all := lw_g (lw_at lw_m5 131 rfl) rfl
theorem q1179 : (Jvm.Cond.methodLink "NonsenseRowsLaw" (58 : Nat) ({ cls := "NonsenseRows", name := "slips", desc := "(I)I" } : Jvm.MethodName)) ∈ lw_all := lw_g (lw_at lw_m5 136 rfl) rfl
theorem q1183 : (Jvm.Cond.methodLink "NonsenseRowsLaw" (168 : Nat) ({ cls := "NonsenseRows", name := "law", desc := "(IIII)J" } : Jvm.MethodName)) ∈ lw_all := lw_g (lw_at lw_m5 140 rfl) rfl
theorem q1191 : (Jvm.Cond.methodLink "NonsenseRowsLaw" (164 : Nat) ({ cls := "NonsenseRows", name := "forget", desc := "()I" } : Jvm.MethodName)) ∈ lw_all := lw_g (lw_at lw_m5 148 rfl) rfl
theorem q1196 : (Jvm.Cond.methodLink "NonsenseRowsLaw" (62 : Nat) ({ cls := "NonsenseRows", name := "needs", desc := "(I)I" } : Jvm.MethodName)) ∈ lw_all := lw_g (lw_at lw_m5 153 rfl) rfl
theorem q1213 : (Jvm.Cond.methodLink "NonsenseRowsLaw" (66 : Nat) ({ cls := "NonsenseRows", name := "fresh", desc := "(I)I" } : Jvm.MethodName)) ∈ lw_all := lw_g (lw_at lw_m5 170 rfl) rfl
theorem q1222 : (Jvm.Cond.methodLink "NonsenseRowsLaw" (70 : Nat) ({ cls := "NonsenseRows", name := "saving", desc := "(I)I" } : Jvm.MethodName)) ∈ lw_all := lw_g (lw_at lw_m5 179 rfl) rfl
theorem q1227 : (Jvm.Cond.methodLink "NonsenseRowsLaw" (74 : Nat) ({ cls := "NonsenseRows", name := "after", desc := "(II)I" } : Jvm.MethodName)) ∈ lw_all := lw_g (lw_at lw_m5 184 rfl) rfl
theorem q1231 : (Jvm.Cond.methodLink "NonsenseRowsLaw" (78 : Nat) ({ cls := "NonsenseRows", name := "lasts", desc := "(I)I" } : Jvm.MethodName)) ∈ lw_all := lw_g (lw_at lw_m5 188 rfl) rfl
theorem q1235 : (Jvm.Cond.methodLink "NonsenseRowsLaw" (82 : Nat) ({ cls := "NonsenseRows", name := "gone", desc := "(I)I" } : Jvm.MethodName)) ∈ lw_all := lw_g (lw_at lw_m5 192 rfl) rfl
theorem q1242 : (Jvm.Cond.methodLink "NonsenseRowsLaw" (86 : Nat) ({ cls := "NonsenseRows", name := "without", desc := "(II)I" } : Jvm.MethodName)) ∈ lw_all := lw_g (lw_at lw_m5 199 rfl) rfl
theorem q1246 : (Jvm.Cond.methodLink "NonsenseRowsLaw" (90 : Nat) ({ cls := "NonsenseRows", name := "between", desc := "(III)I" } : Jvm.MethodName)) ∈ lw_all := lw_g (lw_at lw_m5 203 rfl) rfl
theorem q1250 : (Jvm.Cond.methodLink "NonsenseRowsLaw" (94 : Nat) ({ cls := "NonsenseRows", name := "evening", desc := "(III)I" } : Jvm.MethodName)) ∈ lw_all := lw_g (lw_at lw_m5 207 rfl) rfl
theorem q1255 : (Jvm.Cond.methodLink "NonsenseRowsLaw" (98 : Nat) ({ cls := "NonsenseRows", name := "when", desc := "(I)I" } : Jvm.MethodName)) ∈ lw_all := lw_g (lw_at lw_m5 212 rfl) rfl
theorem q1259 : (Jvm.Cond.methodLink "NonsenseRowsLaw" (102 : Nat) ({ cls := "NonsenseRows", name := "must", desc := "(I)I" } : Jvm.MethodName)) ∈ lw_all := lw_g (lw_at lw_m5 216 rfl) rfl
theorem q1263 : (Jvm.Cond.methodLink "NonsenseRowsLaw" (106 : Nat) ({ cls := "NonsenseRows", name := "verse", desc := "(II)I" } : Jvm.MethodName)) ∈ lw_all := lw_g (lw_at lw_m5 220 rfl) rfl
theorem q1267 : (Jvm.Cond.methodLink "NonsenseRowsLaw" (110 : Nat) ({ cls := "NonsenseRows", name := "near", desc := "(IIIZ)I" } : Jvm.MethodName)) ∈ lw_all := lw_g (lw_at lw_m5 224 rfl) rfl
theorem q1274 : (Jvm.Cond.methodLink "NonsenseRowsLaw" (115 : Nat) ({ cls := "NonsenseRows", name := "fit", desc := "(IIIII)I" } : Jvm.MethodName)) ∈ lw_all := lw_g (lw_at lw_m5 231 rfl) rfl
theorem q1285 : (Jvm.Cond.methodLink "NonsenseRowsLaw" (119 : Nat) ({ cls := "NonsenseRows", name := "days", desc := "(I)I" } : Jvm.MethodName)) ∈ lw_all := lw_g (lw_at lw_m6 2 rfl) rfl
theorem q1300 : (Jvm.Cond.methodLink "NonsenseRowsLaw" (123 : Nat) ({ cls := "NonsenseRows", name := "spread", desc := "(III)I" } : Jvm.MethodName)) ∈ lw_all := lw_g (lw_at lw_m6 17 rfl) rfl
theorem q1326 : (Jvm.Cond.methodLink "NonsenseRowsLaw" (127 : Nat) ({ cls := "NonsenseRows", name := "left", desc := "(IIII)I" } : Jvm.MethodName)) ∈ lw_all := lw_g (lw_at lw_m6 43 rfl) rfl
theorem q1330 : (Jvm.Cond.methodLink "NonsenseRowsLaw" (132 : Nat) ({ cls := "NonsenseRows", name := "shuffled", desc := "(II)I" } : Jvm.MethodName)) ∈ lw_all := lw_g (lw_at lw_m6 47 rfl) rfl
theorem q1338 : (Jvm.Cond.methodLink "NonsenseRowsLaw" (136 : Nat) ({ cls := "NonsenseRows", name := "backward", desc := "(I)I" } : Jvm.MethodName)) ∈ lw_all := lw_g (lw_at lw_m6 55 rfl) rfl
theorem q1342 : (Jvm.Cond.methodLink "NonsenseRowsLaw" (140 : Nat) ({ cls := "NonsenseRows", name := "rowOf", desc := "(I)I" } : Jvm.MethodName)) ∈ lw_all := lw_g (lw_at lw_m6 59 rfl) rfl
theorem q1347 : (Jvm.Cond.methodLink "NonsenseRowsLaw" (144 : Nat) ({ cls := "NonsenseRows", name := "thing", desc := "(II)I" } : Jvm.MethodName)) ∈ lw_all := lw_g (lw_at lw_m6 64 rfl) rfl
theorem q1351 : (Jvm.Cond.methodLink "NonsenseRowsLaw" (148 : Nat) ({ cls := "NonsenseRows", name := "used", desc := "(I)I" } : Jvm.MethodName)) ∈ lw_all := lw_g (lw_at lw_m6 68 rfl) rfl
theorem q1355 : (Jvm.Cond.methodLink "NonsenseRowsLaw" (152 : Nat) ({ cls := "NonsenseRows", name := "sitting", desc := "(II)I" } : Jvm.MethodName)) ∈ lw_all := lw_g (lw_at lw_m6 72 rfl) rfl
theorem q1359 : (Jvm.Cond.methodLink "NonsenseRowsLaw" (156 : Nat) ({ cls := "NonsenseRows", name := "book", desc := "(II)I" } : Jvm.MethodName)) ∈ lw_all := lw_g (lw_at lw_m6 76 rfl) rfl
theorem q1363 : (Jvm.Cond.methodLink "NonsenseRowsLaw" (160 : Nat) ({ cls := "NonsenseRows", name := "parts", desc := "(I)I" } : Jvm.MethodName)) ∈ lw_all := lw_g (lw_at lw_m6 80 rfl) rfl
theorem q1370 : (Jvm.Cond.methodLink "NonsenseRowsLaw" (173 : Nat) ({ cls := "NonsenseRows", name := "count", desc := "(I)I" } : Jvm.MethodName)) ∈ lw_all := lw_g (lw_at lw_m6 87 rfl) rfl
theorem q1374 : (Jvm.Cond.methodLink "NonsenseRowsLaw" (177 : Nat) ({ cls := "NonsenseRows", name := "keep", desc := "(I)I" } : Jvm.MethodName)) ∈ lw_all := lw_g (lw_at lw_m6 91 rfl) rfl
theorem q1385 : (Jvm.Cond.methodLink "NonsenseRowsLaw" (181 : Nat) ({ cls := "NonsenseRows", name := "back", desc := "(I)I" } : Jvm.MethodName)) ∈ lw_all := lw_g (lw_at lw_m6 102 rfl) rfl
theorem q1389 : (Jvm.Cond.classLink "NonsenseRowsLaw" (10 : Nat) "NonsenseRowsModel") ∈ lw_all := lw_g (lw_at lw_m6 106 rfl) rfl
theorem q1391 : (Jvm.Cond.methodLink "NonsenseRowsLaw" (12 : Nat) ({ cls := "NonsenseRowsModel", name := "<init>", desc := "()V" } : Jvm.MethodName)) ∈ lw_all := lw_g (lw_at lw_m6 108 rfl) rfl
theorem q1509 : (Jvm.Cond.methodLink "NonsenseRowsLaw" (180 : Nat) ({ cls := "NonsenseRowsModel", name := "keep", desc := "(I)I" } : Jvm.MethodName)) ∈ lw_all := lw_g (lw_at lw_m6 226 rfl) rfl
theorem q1517 : (Jvm.Cond.methodLink "NonsenseRowsLaw" (184 : Nat) ({ cls := "NonsenseRowsModel", name := "back", desc := "(I)I" } : Jvm.MethodName)) ∈ lw_all := lw_g (lw_at lw_m6 234 rfl) rfl
theorem q1525 : (Jvm.Cond.methodLink "NonsenseRowsLaw" (17 : Nat) ({ cls := "NonsenseRowsModel", name := "feed", desc := "(IIIII)I" } : Jvm.MethodName)) ∈ lw_all := lw_g (lw_at lw_m7 2 rfl) rfl
theorem q1529 : (Jvm.Cond.methodLink "NonsenseRowsLaw" (22 : Nat) ({ cls := "NonsenseRowsModel", name := "end", desc := "(I)I" } : Jvm.MethodName)) ∈ lw_all := lw_g (lw_at lw_m7 6 rfl) rfl
theorem q1533 : (Jvm.Cond.methodLink "NonsenseRowsLaw" (31 : Nat) ({ cls := "NonsenseRowsModel", name := "fault", desc := "(I)I" } : Jvm.MethodName)) ∈ lw_all := lw_g (lw_at lw_m7 10 rfl) rfl
theorem q1537 : (Jvm.Cond.methodLink "NonsenseRowsLaw" (27 : Nat) ({ cls := "NonsenseRowsModel", name := "text", desc := "()I" } : Jvm.MethodName)) ∈ lw_all := lw_g (lw_at lw_m7 14 rfl) rfl
theorem q1626 : (Jvm.Cond.methodLink "NonsenseRowsLaw" (172 : Nat) ({ cls := "NonsenseRowsModel", name := "law", desc := "(IIII)J" } : Jvm.MethodName)) ∈ lw_all := lw_g (lw_at lw_m7 103 rfl) rfl
theorem q1647 : (Jvm.Cond.methodLink "NonsenseRowsLaw" (36 : Nat) ({ cls := "NonsenseRowsModel", name := "read", desc := "(II)I" } : Jvm.MethodName)) ∈ lw_all := lw_g (lw_at lw_m7 124 rfl) rfl
theorem q1696 : (Jvm.Cond.methodLink "NonsenseRowsLaw" (40 : Nat) ({ cls := "NonsenseRowsModel", name := "learn", desc := "(I)I" } : Jvm.MethodName)) ∈ lw_all := lw_g (lw_at lw_m7 173 rfl) rfl
theorem q1704 : (Jvm.Cond.methodLink "NonsenseRowsLaw" (44 : Nat) ({ cls := "NonsenseRowsModel", name := "waits", desc := "(I)I" } : Jvm.MethodName)) ∈ lw_all := lw_g (lw_at lw_m7 181 rfl) rfl
theorem q1717 : (Jvm.Cond.methodLink "NonsenseRowsLaw" (49 : Nat) ({ cls := "NonsenseRowsModel", name := "strength", desc := "(III)I" } : Jvm.MethodName)) ∈ lw_all := lw_g (lw_at lw_m7 194 rfl) rfl
theorem q1722 : (Jvm.Cond.methodLink "NonsenseRowsLaw" (53 : Nat) ({ cls := "NonsenseRowsModel", name := "links", desc := "(I)I" } : Jvm.MethodName)) ∈ lw_all := lw_g (lw_at lw_m7 199 rfl) rfl
theorem q1730 : (Jvm.Cond.methodLink "NonsenseRowsLaw" (57 : Nat) ({ cls := "NonsenseRowsModel", name := "support", desc := "(II)I" } : Jvm.MethodName)) ∈ lw_all := lw_g (lw_at lw_m7 207 rfl) rfl
theorem q1734 : (Jvm.Cond.methodLink "NonsenseRowsLaw" (61 : Nat) ({ cls := "NonsenseRowsModel", name := "slips", desc := "(I)I" } : Jvm.MethodName)) ∈ lw_all := lw_g (lw_at lw_m7 211 rfl) rfl
theorem q1738 : (Jvm.Cond.methodLink "NonsenseRowsLaw" (65 : Nat) ({ cls := "NonsenseRowsModel", name := "needs", desc := "(I)I" } : Jvm.MethodName)) ∈ lw_all := lw_g (lw_at lw_m7 215 rfl) rfl
theorem q1754 : (Jvm.Cond.methodLink "NonsenseRowsLaw" (69 : Nat) ({ cls := "NonsenseRowsModel", name := "fresh", desc := "(I)I" } : Jvm.MethodName)) ∈ lw_all := lw_g (lw_at lw_m7 231 rfl) rfl
theorem q1762 : (Jvm.Cond.methodLink "NonsenseRowsLaw" (73 : Nat) ({ cls := "NonsenseRowsModel", name := "saving", desc := "(I)I" } : Jvm.MethodName)) ∈ lw_all := lw_g (lw_at lw_m7 239 rfl) rfl
theorem q1767 : (Jvm.Cond.methodLink "NonsenseRowsLaw" (77 : Nat) ({ cls := "NonsenseRowsModel", name := "after", desc := "(II)I" } : Jvm.MethodName)) ∈ lw_all := lw_g (lw_at lw_m8 4 rfl) rfl
theorem q1771 : (Jvm.Cond.methodLink "NonsenseRowsLaw" (81 : Nat) ({ cls := "NonsenseRowsModel", name := "lasts", desc := "(I)I" } : Jvm.MethodName)) ∈ lw_all := lw_g (lw_at lw_m8 8 rfl) rfl
theorem q1775 : (Jvm.Cond.methodLink "NonsenseRowsLaw" (85 : Nat) ({ cls := "NonsenseRowsModel", name := "gone", desc := "(I)I" } : Jvm.MethodName)) ∈ lw_all := lw_g (lw_at lw_m8 12 rfl) rfl
theorem q1782 : (Jvm.Cond.methodLink "NonsenseRowsLaw" (89 : Nat) ({ cls := "NonsenseRowsModel", name := "without", desc := "(II)I" } : Jvm.MethodName)) ∈ lw_all := lw_g (lw_at lw_m8 19 rfl) rfl
theorem q1786 : (Jvm.Cond.methodLink "NonsenseRowsLaw" (93 : Nat) ({ cls := "NonsenseRowsModel", name := "between", desc := "(III)I" } : Jvm.MethodName)) ∈ lw_all := lw_g (lw_at lw_m8 23 rfl) rfl
theorem q1790 : (Jvm.Cond.methodLink "NonsenseRowsLaw" (97 : Nat) ({ cls := "NonsenseRowsModel", name := "evening", desc := "(III)I" } : Jvm.MethodName)) ∈ lw_all := lw_g (lw_at lw_m8 27 rfl) rfl
theorem q1795 : (Jvm.Cond.methodLink "NonsenseRowsLaw" (126 : Nat) ({ cls := "NonsenseRowsModel", name := "spread", desc := "(III)I" } : Jvm.MethodName)) ∈ lw_all := lw_g (lw_at lw_m8 32 rfl) rfl
theorem q1813 : (Jvm.Cond.methodLink "NonsenseRowsLaw" (131 : Nat) ({ cls := "NonsenseRowsModel", name := "left", desc := "(IIII)I" } : Jvm.MethodName)) ∈ lw_all := lw_g (lw_at lw_m8 50 rfl) rfl
theorem q1817 : (Jvm.Cond.methodLink "NonsenseRowsLaw" (135 : Nat) ({ cls := "NonsenseRowsModel", name := "shuffled", desc := "(II)I" } : Jvm.MethodName)) ∈ lw_all := lw_g (lw_at lw_m8 54 rfl) rfl
theorem q1825 : (Jvm.Cond.methodLink "NonsenseRowsLaw" (139 : Nat) ({ cls := "NonsenseRowsModel", name := "backward", desc := "(I)I" } : Jvm.MethodName)) ∈ lw_all := lw_g (lw_at lw_m8 62 rfl) rfl
theorem q1829 : (Jvm.Cond.methodLink "NonsenseRowsLaw" (143 : Nat) ({ cls := "NonsenseRowsModel", name := "rowOf", desc := "(I)I" } : Jvm.MethodName)) ∈ lw_all := lw_g (lw_at lw_m8 66 rfl) rfl
theorem q1837 : (Jvm.Cond.methodLink "NonsenseRowsLaw" (147 : Nat) ({ cls := "NonsenseRowsModel", name := "thing", desc := "(II)I" } : Jvm.MethodName)) ∈ lw_all := lw_g (lw_at lw_m8 74 rfl) rfl
theorem q1841 : (Jvm.Cond.methodLink "NonsenseRowsLaw" (151 : Nat) ({ cls := "NonsenseRowsModel", name := "used", desc := "(I)I" } : Jvm.MethodName)) ∈ lw_all := lw_g (lw_at lw_m8 78 rfl) rfl
theorem q1845 : (Jvm.Cond.methodLink "NonsenseRowsLaw" (155 : Nat) ({ cls := "NonsenseRowsModel", name := "sitting", desc := "(II)I" } : Jvm.MethodName)) ∈ lw_all := lw_g (lw_at lw_m8 82 rfl) rfl
theorem q1849 : (Jvm.Cond.methodLink "NonsenseRowsLaw" (159 : Nat) ({ cls := "NonsenseRowsModel", name := "book", desc := "(II)I" } : Jvm.MethodName)) ∈ lw_all := lw_g (lw_at lw_m8 86 rfl) rfl
theorem q1853 : (Jvm.Cond.methodLink "NonsenseRowsLaw" (101 : Nat) ({ cls := "NonsenseRowsModel", name := "when", desc := "(I)I" } : Jvm.MethodName)) ∈ lw_all := lw_g (lw_at lw_m8 90 rfl) rfl
theorem q1857 : (Jvm.Cond.methodLink "NonsenseRowsLaw" (105 : Nat) ({ cls := "NonsenseRowsModel", name := "must", desc := "(I)I" } : Jvm.MethodName)) ∈ lw_all := lw_g (lw_at lw_m8 94 rfl) rfl
theorem q1862 : (Jvm.Cond.methodLink "NonsenseRowsLaw" (109 : Nat) ({ cls := "NonsenseRowsModel", name := "verse", desc := "(II)I" } : Jvm.MethodName)) ∈ lw_all := lw_g (lw_at lw_m8 99 rfl) rfl
theorem q1866 : (Jvm.Cond.methodLink "NonsenseRowsLaw" (114 : Nat) ({ cls := "NonsenseRowsModel", name := "near", desc := "(IIIZ)I" } : Jvm.MethodName)) ∈ lw_all := lw_g (lw_at lw_m8 103 rfl) rfl
theorem q1874 : (Jvm.Cond.methodLink "NonsenseRowsLaw" (118 : Nat) ({ cls := "NonsenseRowsModel", name := "fit", desc := "(IIIII)I" } : Jvm.MethodName)) ∈ lw_all := lw_g (lw_at lw_m8 111 rfl) rfl
theorem q1882 : (Jvm.Cond.methodLink "NonsenseRowsLaw" (122 : Nat) ({ cls := "NonsenseRowsModel", name := "days", desc := "(I)I" } : Jvm.MethodName)) ∈ lw_all := lw_g (lw_at lw_m8 119 rfl) rfl
theorem q1888 : (Jvm.Cond.methodLink "NonsenseRowsLaw" (163 : Nat) ({ cls := "NonsenseRowsModel", name := "parts", desc := "(I)I" } : Jvm.MethodName)) ∈ lw_all := lw_g (lw_at lw_m8 125 rfl) rfl
theorem q1893 : (Jvm.Cond.methodLink "NonsenseRowsLaw" (167 : Nat) ({ cls := "NonsenseRowsModel", name := "forget", desc := "()I" } : Jvm.MethodName)) ∈ lw_all := lw_g (lw_at lw_m8 130 rfl) rfl
theorem q1897 : (Jvm.Cond.methodLink "NonsenseRowsLaw" (176 : Nat) ({ cls := "NonsenseRowsModel", name := "count", desc := "(I)I" } : Jvm.MethodName)) ∈ lw_all := lw_g (lw_at lw_m8 134 rfl) rfl
theorem q1901 : (Jvm.Cond.methodLink "NonsenseRowsLaw" (188 : Nat) ({ cls := "NonsenseRowsModel", name := "row", desc := "(III)I" } : Jvm.MethodName)) ∈ lw_all := lw_g (lw_at lw_m8 138 rfl) rfl
theorem q1905 : (Jvm.Cond.methodLink "NonsenseRowsLaw" (195 : Nat) ({ cls := "NonsenseRowsModel", name := "write", desc := "(IIJ)I" } : Jvm.MethodName)) ∈ lw_all := lw_g (lw_at lw_m8 142 rfl) rfl
theorem q1912 : (Jvm.Cond.methodLink "NonsenseRowsLaw" (199 : Nat) ({ cls := "NonsenseRowsModel", name := "paste", desc := "(IIIII)I" } : Jvm.MethodName)) ∈ lw_all := lw_g (lw_at lw_m8 149 rfl) rfl
theorem q1916 : (Jvm.Cond.constantLong "NonsenseRowsLaw" (189 : Nat) (4294967295 : Int64)) ∈ lw_all := lw_g (lw_at lw_m8 153 rfl) rfl

theorem q110 : (Jvm.Cond.initialized "java/lang/System") ∈ lw_all := lw_g (lw_at lw_m1 27 rfl) rfl
set_option maxRecDepth 100000
theorem q321 : (Jvm.Cond.static ({ cls := "java/lang/System", name := "arraycopy", desc := "(Ljava/lang/Object;ILjava/lang/Object;II)V" } : Jvm.MethodName)) ∈ lw_all := lw_g (lw_at lw_m1 238 rfl) rfl
theorem q322 : (Jvm.Cond.native ({ cls := "java/lang/System", name := "arraycopy", desc := "(Ljava/lang/Object;ILjava/lang/Object;II)V" } : Jvm.MethodName)) ∈ lw_all := lw_g (lw_at lw_m1 239 rfl) rfl

theorem q710 : (Jvm.Cond.interfaceMethod "java/util/List" "java/util/List" "size" "()I") ∈ lw_tbl := lw_at lw_m3 147 rfl
set_option maxRecDepth 100000
theorem q711 : (Jvm.Cond.declares ({ cls := "java/util/List", name := "size", desc := "()I" } : Jvm.MethodName)) ∈ lw_tbl := lw_at lw_m3 148 rfl
theorem q858 : (Jvm.Cond.interfaceMethod "java/util/List" "java/util/List" "add" "(Ljava/lang/Object;)Z") ∈ lw_tbl := lw_at lw_m4 55 rfl
theorem q859 : (Jvm.Cond.declares ({ cls := "java/util/List", name := "add", desc := "(Ljava/lang/Object;)Z" } : Jvm.MethodName)) ∈ lw_tbl := lw_at lw_m4 56 rfl
theorem q940 : (Jvm.Cond.interfaceMethod "java/util/List" "java/util/List" "clear" "()V") ∈ lw_tbl := lw_at lw_m4 137 rfl
theorem q941 : (Jvm.Cond.declares ({ cls := "java/util/List", name := "clear", desc := "()V" } : Jvm.MethodName)) ∈ lw_tbl := lw_at lw_m4 138 rfl
theorem q951 : (Jvm.Cond.interfaceMethod "java/util/List" "java/util/List" "get" "(I)Ljava/lang/Object;") ∈ lw_tbl := lw_at lw_m4 148 rfl
theorem q952 : (Jvm.Cond.declares ({ cls := "java/util/List", name := "get", desc := "(I)Ljava/lang/Object;" } : Jvm.MethodName)) ∈ lw_tbl := lw_at lw_m4 149 rfl
theorem q1083 : (Jvm.Cond.interfaceMethod "java/util/List" "java/util/List" "remove" "(I)Ljava/lang/Object;") ∈ lw_tbl := lw_at lw_m5 40 rfl
theorem q1084 : (Jvm.Cond.declares ({ cls := "java/util/List", name := "remove", desc := "(I)Ljava/lang/Object;" } : Jvm.MethodName)) ∈ lw_tbl := lw_at lw_m5 41 rfl

theorem q1947 : (Jvm.Cond.sameMethod "[Ljava/lang/Object;" "java/lang/Object" "getClass" "()Ljava/lang/Class;") ∈ lw_all := lw_g (lw_at lw_m8 184 rfl) rfl
set_option maxRecDepth 100000
theorem q1948 : (Jvm.Cond.selects "[Ljava/lang/Object;" ({ cls := "java/lang/Object", name := "getClass", desc := "()Ljava/lang/Class;" } : Jvm.MethodName) ({ cls := "java/lang/Object", name := "getClass", desc := "()Ljava/lang/Class;" } : Jvm.MethodName)) ∈ lw_all := lw_g (lw_at lw_m8 185 rfl) rfl
theorem q1958 : (Jvm.Cond.castable "[Ljava/lang/Object;" "java/lang/Object") ∈ lw_tbl := lw_at lw_m8 195 rfl

theorem q1950 : (Jvm.Cond.castable "[B" "java/lang/Object") ∈ lw_tbl := lw_at lw_m8 187 rfl
set_option maxRecDepth 100000

theorem q1951 : (Jvm.Cond.castable "[S" "java/lang/Object") ∈ lw_tbl := lw_at lw_m8 188 rfl
set_option maxRecDepth 100000

theorem q1952 : (Jvm.Cond.castable "[I" "java/lang/Object") ∈ lw_tbl := lw_at lw_m8 189 rfl
set_option maxRecDepth 100000

theorem q1953 : (Jvm.Cond.castable "[J" "java/lang/Object") ∈ lw_tbl := lw_at lw_m8 190 rfl
set_option maxRecDepth 100000

theorem q1954 : (Jvm.Cond.castable "[LNonsenseRows$Slot;" "java/lang/Object") ∈ lw_tbl := lw_at lw_m8 191 rfl
set_option maxRecDepth 100000

theorem q1955 : (Jvm.Cond.castable "[[LNonsenseRows$Sum;" "java/lang/Object") ∈ lw_tbl := lw_at lw_m8 192 rfl
set_option maxRecDepth 100000

theorem q1956 : (Jvm.Cond.castable "[LNonsenseRows$Sum;" "java/lang/Object") ∈ lw_tbl := lw_at lw_m8 193 rfl
set_option maxRecDepth 100000

theorem q1957 : (Jvm.Cond.castable "[Z" "java/lang/Object") ∈ lw_tbl := lw_at lw_m8 194 rfl
set_option maxRecDepth 100000

theorem q1959 : (Jvm.Cond.castable "[[[I" "java/lang/Object") ∈ lw_tbl := lw_at lw_m8 196 rfl
set_option maxRecDepth 100000

theorem q1960 : (Jvm.Cond.castable "[[I" "java/lang/Object") ∈ lw_tbl := lw_at lw_m8 197 rfl
set_option maxRecDepth 100000

theorem q1961 : (Jvm.Cond.castable "[LNonsenseRows$State;" "java/lang/Object") ∈ lw_tbl := lw_at lw_m8 198 rfl
set_option maxRecDepth 100000

theorem q1962 : (Jvm.Cond.castable "[Ljava/lang/String;" "java/lang/Object") ∈ lw_tbl := lw_at lw_m8 199 rfl
set_option maxRecDepth 100000

