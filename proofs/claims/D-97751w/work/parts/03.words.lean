theorem q98 : (Jvm.Cond.arrayOver (Jvm.ClassFile.FieldType.object "RentedViews$View")) ∈ lw_tbl := lw_at lw_m1 38 rfl
set_option maxRecDepth 100000
theorem q135 : (Jvm.Cond.arrayClass Jvm.ClassFile.FieldType.int) ∈ lw_all := lw_g (lw_at lw_m1 75 rfl) rfl
theorem q136 : (Jvm.Cond.arrayOver (Jvm.ClassFile.FieldType.object "RentedViews$State")) ∈ lw_tbl := lw_at lw_m1 76 rfl
theorem q188 : (Jvm.Cond.arrayOver (Jvm.ClassFile.FieldType.object "RentedViews$Shop")) ∈ lw_tbl := lw_at lw_m1 128 rfl
theorem q214 : (Jvm.Cond.arrayClass Jvm.ClassFile.FieldType.byte) ∈ lw_all := lw_g (lw_at lw_m1 154 rfl) rfl
theorem q294 : (Jvm.Cond.arrayClass Jvm.ClassFile.FieldType.boolean) ∈ lw_all := lw_g (lw_at lw_m1 234 rfl) rfl
theorem q60 : (Jvm.Cond.initialized "RentedViewsLaw") ∈ lw_all := lw_g (lw_at lw_m1 0 rfl) rfl
set_option maxRecDepth 100000
theorem q83 : (Jvm.Cond.classLink "RentedViewsLaw" (7 : Nat) "RentedViews") ∈ lw_all := lw_g (lw_at lw_m1 23 rfl) rfl
theorem q85 : (Jvm.Cond.methodLink "RentedViewsLaw" (9 : Nat) ({ cls := "RentedViews", name := "<init>", desc := "()V" } : Jvm.MethodName)) ∈ lw_all := lw_g (lw_at lw_m1 25 rfl) rfl
theorem q295 : (Jvm.Cond.methodLink "RentedViewsLaw" (13 : Nat) ({ cls := "RentedViews", name := "shop", desc := "()I" } : Jvm.MethodName)) ∈ lw_all := lw_g (lw_at lw_m1 235 rfl) rfl
theorem q299 : (Jvm.Cond.methodLink "RentedViewsLaw" (18 : Nat) ({ cls := "RentedViews", name := "view", desc := "(IIII)I" } : Jvm.MethodName)) ∈ lw_all := lw_g (lw_at lw_m1 239 rfl) rfl
theorem q400 : (Jvm.Cond.methodLink "RentedViewsLaw" (23 : Nat) ({ cls := "RentedViews", name := "renter", desc := "(III)I" } : Jvm.MethodName)) ∈ lw_all := lw_g (lw_at lw_m2 100 rfl) rfl
theorem q413 : (Jvm.Cond.methodLink "RentedViewsLaw" (28 : Nat) ({ cls := "RentedViews", name := "things", desc := "(II)I" } : Jvm.MethodName)) ∈ lw_all := lw_g (lw_at lw_m2 113 rfl) rfl
theorem q422 : (Jvm.Cond.methodLink "RentedViewsLaw" (33 : Nat) ({ cls := "RentedViews", name := "type", desc := "(I)I" } : Jvm.MethodName)) ∈ lw_all := lw_g (lw_at lw_m2 122 rfl) rfl
theorem q427 : (Jvm.Cond.methodLink "RentedViewsLaw" (38 : Nat) ({ cls := "RentedViews", name := "clear", desc := "()I" } : Jvm.MethodName)) ∈ lw_all := lw_g (lw_at lw_m2 127 rfl) rfl
theorem q431 : (Jvm.Cond.methodLink "RentedViewsLaw" (42 : Nat) ({ cls := "RentedViews", name := "read", desc := "()I" } : Jvm.MethodName)) ∈ lw_all := lw_g (lw_at lw_m2 131 rfl) rfl
theorem q600 : (Jvm.Cond.methodLink "RentedViewsLaw" (46 : Nat) ({ cls := "RentedViews", name := "let", desc := "(II)I" } : Jvm.MethodName)) ∈ lw_all := lw_g (lw_at lw_m3 60 rfl) rfl
theorem q660 : (Jvm.Cond.methodLink "RentedViewsLaw" (50 : Nat) ({ cls := "RentedViews", name := "night", desc := "()I" } : Jvm.MethodName)) ∈ lw_all := lw_g (lw_at lw_m3 120 rfl) rfl
theorem q667 : (Jvm.Cond.methodLink "RentedViewsLaw" (54 : Nat) ({ cls := "RentedViews", name := "undo", desc := "()I" } : Jvm.MethodName)) ∈ lw_all := lw_g (lw_at lw_m3 127 rfl) rfl
theorem q672 : (Jvm.Cond.methodLink "RentedViewsLaw" (58 : Nat) ({ cls := "RentedViews", name := "of", desc := "(II)I" } : Jvm.MethodName)) ∈ lw_all := lw_g (lw_at lw_m3 132 rfl) rfl
theorem q728 : (Jvm.Cond.methodLink "RentedViewsLaw" (62 : Nat) ({ cls := "RentedViews", name := "about", desc := "(II)I" } : Jvm.MethodName)) ∈ lw_all := lw_g (lw_at lw_m3 188 rfl) rfl
theorem q733 : (Jvm.Cond.methodLink "RentedViewsLaw" (66 : Nat) ({ cls := "RentedViews", name := "shows", desc := "(II)I" } : Jvm.MethodName)) ∈ lw_all := lw_g (lw_at lw_m3 193 rfl) rfl
theorem q740 : (Jvm.Cond.methodLink "RentedViewsLaw" (70 : Nat) ({ cls := "RentedViews", name := "suits", desc := "(III)I" } : Jvm.MethodName)) ∈ lw_all := lw_g (lw_at lw_m3 200 rfl) rfl
theorem q751 : (Jvm.Cond.methodLink "RentedViewsLaw" (74 : Nat) ({ cls := "RentedViews", name := "best", desc := "(II)I" } : Jvm.MethodName)) ∈ lw_all := lw_g (lw_at lw_m3 211 rfl) rfl
theorem q766 : (Jvm.Cond.methodLink "RentedViewsLaw" (78 : Nat) ({ cls := "RentedViews", name := "money", desc := "(I)I" } : Jvm.MethodName)) ∈ lw_all := lw_g (lw_at lw_m3 226 rfl) rfl
theorem q770 : (Jvm.Cond.methodLink "RentedViewsLaw" (82 : Nat) ({ cls := "RentedViews", name := "come", desc := "(II)I" } : Jvm.MethodName)) ∈ lw_all := lw_g (lw_at lw_m3 230 rfl) rfl
theorem q783 : (Jvm.Cond.methodLink "RentedViewsLaw" (86 : Nat) ({ cls := "RentedViews", name := "more", desc := "(IIII)I" } : Jvm.MethodName)) ∈ lw_all := lw_g (lw_at lw_m4 3 rfl) rfl
theorem q787 : (Jvm.Cond.methodLink "RentedViewsLaw" (90 : Nat) ({ cls := "RentedViews", name := "changed", desc := "(II)I" } : Jvm.MethodName)) ∈ lw_all := lw_g (lw_at lw_m4 7 rfl) rfl
theorem q794 : (Jvm.Cond.methodLink "RentedViewsLaw" (94 : Nat) ({ cls := "RentedViews", name := "air", desc := "(I)I" } : Jvm.MethodName)) ∈ lw_all := lw_g (lw_at lw_m4 14 rfl) rfl
theorem q802 : (Jvm.Cond.methodLink "RentedViewsLaw" (98 : Nat) ({ cls := "RentedViews", name := "bring", desc := "(III)I" } : Jvm.MethodName)) ∈ lw_all := lw_g (lw_at lw_m4 22 rfl) rfl
theorem q806 : (Jvm.Cond.methodLink "RentedViewsLaw" (102 : Nat) ({ cls := "RentedViews", name := "left", desc := "(III)I" } : Jvm.MethodName)) ∈ lw_all := lw_g (lw_at lw_m4 26 rfl) rfl
theorem q811 : (Jvm.Cond.methodLink "RentedViewsLaw" (106 : Nat) ({ cls := "RentedViews", name := "reading", desc := "(III)I" } : Jvm.MethodName)) ∈ lw_all := lw_g (lw_at lw_m4 31 rfl) rfl
theorem q815 : (Jvm.Cond.methodLink "RentedViewsLaw" (110 : Nat) ({ cls := "RentedViews", name := "forget", desc := "()I" } : Jvm.MethodName)) ∈ lw_all := lw_g (lw_at lw_m4 35 rfl) rfl
theorem q819 : (Jvm.Cond.methodLink "RentedViewsLaw" (114 : Nat) ({ cls := "RentedViews", name := "is", desc := "(II)I" } : Jvm.MethodName)) ∈ lw_all := lw_g (lw_at lw_m4 39 rfl) rfl
theorem q829 : (Jvm.Cond.methodLink "RentedViewsLaw" (118 : Nat) ({ cls := "RentedViews", name := "look", desc := "(I)I" } : Jvm.MethodName)) ∈ lw_all := lw_g (lw_at lw_m4 49 rfl) rfl
theorem q837 : (Jvm.Cond.methodLink "RentedViewsLaw" (122 : Nat) ({ cls := "RentedViews", name := "odds", desc := "(I)I" } : Jvm.MethodName)) ∈ lw_all := lw_g (lw_at lw_m4 57 rfl) rfl
theorem q845 : (Jvm.Cond.methodLink "RentedViewsLaw" (126 : Nat) ({ cls := "RentedViews", name := "drawn", desc := "(III)I" } : Jvm.MethodName)) ∈ lw_all := lw_g (lw_at lw_m4 65 rfl) rfl
theorem q856 : (Jvm.Cond.methodLink "RentedViewsLaw" (130 : Nat) ({ cls := "RentedViews", name := "part", desc := "(I)J" } : Jvm.MethodName)) ∈ lw_all := lw_g (lw_at lw_m4 76 rfl) rfl
theorem q860 : (Jvm.Cond.methodLink "RentedViewsLaw" (135 : Nat) ({ cls := "RentedViews", name := "image", desc := "(I)I" } : Jvm.MethodName)) ∈ lw_all := lw_g (lw_at lw_m4 80 rfl) rfl
theorem q864 : (Jvm.Cond.methodLink "RentedViewsLaw" (139 : Nat) ({ cls := "RentedViews", name := "from", desc := "(I)I" } : Jvm.MethodName)) ∈ lw_all := lw_g (lw_at lw_m4 84 rfl) rfl
theorem q868 : (Jvm.Cond.methodLink "RentedViewsLaw" (143 : Nat) ({ cls := "RentedViews", name := "status", desc := "(I)I" } : Jvm.MethodName)) ∈ lw_all := lw_g (lw_at lw_m4 88 rfl) rfl
theorem q872 : (Jvm.Cond.methodLink "RentedViewsLaw" (147 : Nat) ({ cls := "RentedViews", name := "count", desc := "(I)I" } : Jvm.MethodName)) ∈ lw_all := lw_g (lw_at lw_m4 92 rfl) rfl
theorem q885 : (Jvm.Cond.methodLink "RentedViewsLaw" (151 : Nat) ({ cls := "RentedViews", name := "digest", desc := "()J" } : Jvm.MethodName)) ∈ lw_all := lw_g (lw_at lw_m4 105 rfl) rfl
theorem q891 : (Jvm.Cond.classLink "RentedViewsLaw" (10 : Nat) "RentedViewsModel") ∈ lw_all := lw_g (lw_at lw_m4 111 rfl) rfl
theorem q893 : (Jvm.Cond.methodLink "RentedViewsLaw" (12 : Nat) ({ cls := "RentedViewsModel", name := "<init>", desc := "()V" } : Jvm.MethodName)) ∈ lw_all := lw_g (lw_at lw_m4 113 rfl) rfl
theorem q979 : (Jvm.Cond.methodLink "RentedViewsLaw" (17 : Nat) ({ cls := "RentedViewsModel", name := "shop", desc := "()I" } : Jvm.MethodName)) ∈ lw_all := lw_g (lw_at lw_m4 199 rfl) rfl
theorem q990 : (Jvm.Cond.methodLink "RentedViewsLaw" (22 : Nat) ({ cls := "RentedViewsModel", name := "view", desc := "(IIII)I" } : Jvm.MethodName)) ∈ lw_all := lw_g (lw_at lw_m4 210 rfl) rfl
theorem q1017 : (Jvm.Cond.methodLink "RentedViewsLaw" (27 : Nat) ({ cls := "RentedViewsModel", name := "renter", desc := "(III)I" } : Jvm.MethodName)) ∈ lw_all := lw_g (lw_at lw_m4 237 rfl) rfl
theorem q1033 : (Jvm.Cond.methodLink "RentedViewsLaw" (32 : Nat) ({ cls := "RentedViewsModel", name := "things", desc := "(II)I" } : Jvm.MethodName)) ∈ lw_all := lw_g (lw_at lw_m5 13 rfl) rfl
theorem q1046 : (Jvm.Cond.methodLink "RentedViewsLaw" (49 : Nat) ({ cls := "RentedViewsModel", name := "let", desc := "(II)I" } : Jvm.MethodName)) ∈ lw_all := lw_g (lw_at lw_m5 26 rfl) rfl
theorem q1085 : (Jvm.Cond.methodLink "RentedViewsLaw" (53 : Nat) ({ cls := "RentedViewsModel", name := "night", desc := "()I" } : Jvm.MethodName)) ∈ lw_all := lw_g (lw_at lw_m5 65 rfl) rfl
theorem q1089 : (Jvm.Cond.methodLink "RentedViewsLaw" (57 : Nat) ({ cls := "RentedViewsModel", name := "undo", desc := "()I" } : Jvm.MethodName)) ∈ lw_all := lw_g (lw_at lw_m5 69 rfl) rfl
theorem q1093 : (Jvm.Cond.methodLink "RentedViewsLaw" (61 : Nat) ({ cls := "RentedViewsModel", name := "of", desc := "(II)I" } : Jvm.MethodName)) ∈ lw_all := lw_g (lw_at lw_m5 73 rfl) rfl
theorem q1108 : (Jvm.Cond.methodLink "RentedViewsLaw" (65 : Nat) ({ cls := "RentedViewsModel", name := "about", desc := "(II)I" } : Jvm.MethodName)) ∈ lw_all := lw_g (lw_at lw_m5 88 rfl) rfl
theorem q1113 : (Jvm.Cond.methodLink "RentedViewsLaw" (69 : Nat) ({ cls := "RentedViewsModel", name := "shows", desc := "(II)I" } : Jvm.MethodName)) ∈ lw_all := lw_g (lw_at lw_m5 93 rfl) rfl
theorem q1120 : (Jvm.Cond.methodLink "RentedViewsLaw" (73 : Nat) ({ cls := "RentedViewsModel", name := "suits", desc := "(III)I" } : Jvm.MethodName)) ∈ lw_all := lw_g (lw_at lw_m5 100 rfl) rfl
theorem q1128 : (Jvm.Cond.methodLink "RentedViewsLaw" (77 : Nat) ({ cls := "RentedViewsModel", name := "best", desc := "(II)I" } : Jvm.MethodName)) ∈ lw_all := lw_g (lw_at lw_m5 108 rfl) rfl
theorem q1153 : (Jvm.Cond.methodLink "RentedViewsLaw" (81 : Nat) ({ cls := "RentedViewsModel", name := "money", desc := "(I)I" } : Jvm.MethodName)) ∈ lw_all := lw_g (lw_at lw_m5 133 rfl) rfl
theorem q1157 : (Jvm.Cond.methodLink "RentedViewsLaw" (85 : Nat) ({ cls := "RentedViewsModel", name := "come", desc := "(II)I" } : Jvm.MethodName)) ∈ lw_all := lw_g (lw_at lw_m5 137 rfl) rfl
theorem q1170 : (Jvm.Cond.methodLink "RentedViewsLaw" (89 : Nat) ({ cls := "RentedViewsModel", name := "more", desc := "(IIII)I" } : Jvm.MethodName)) ∈ lw_all := lw_g (lw_at lw_m5 150 rfl) rfl
theorem q1174 : (Jvm.Cond.methodLink "RentedViewsLaw" (93 : Nat) ({ cls := "RentedViewsModel", name := "changed", desc := "(II)I" } : Jvm.MethodName)) ∈ lw_all := lw_g (lw_at lw_m5 154 rfl) rfl
theorem q1178 : (Jvm.Cond.methodLink "RentedViewsLaw" (97 : Nat) ({ cls := "RentedViewsModel", name := "air", desc := "(I)I" } : Jvm.MethodName)) ∈ lw_all := lw_g (lw_at lw_m5 158 rfl) rfl
theorem q1186 : (Jvm.Cond.methodLink "RentedViewsLaw" (101 : Nat) ({ cls := "RentedViewsModel", name := "bring", desc := "(III)I" } : Jvm.MethodName)) ∈ lw_all := lw_g (lw_at lw_m5 166 rfl) rfl
theorem q1191 : (Jvm.Cond.methodLink "RentedViewsLaw" (105 : Nat) ({ cls := "RentedViewsModel", name := "left", desc := "(III)I" } : Jvm.MethodName)) ∈ lw_all := lw_g (lw_at lw_m5 171 rfl) rfl
theorem q1195 : (Jvm.Cond.methodLink "RentedViewsLaw" (109 : Nat) ({ cls := "RentedViewsModel", name := "reading", desc := "(III)I" } : Jvm.MethodName)) ∈ lw_all := lw_g (lw_at lw_m5 175 rfl) rfl
theorem q1199 : (Jvm.Cond.methodLink "RentedViewsLaw" (113 : Nat) ({ cls := "RentedViewsModel", name := "forget", desc := "()I" } : Jvm.MethodName)) ∈ lw_all := lw_g (lw_at lw_m5 179 rfl) rfl
theorem q1203 : (Jvm.Cond.methodLink "RentedViewsLaw" (117 : Nat) ({ cls := "RentedViewsModel", name := "is", desc := "(II)I" } : Jvm.MethodName)) ∈ lw_all := lw_g (lw_at lw_m5 183 rfl) rfl
theorem q1211 : (Jvm.Cond.methodLink "RentedViewsLaw" (121 : Nat) ({ cls := "RentedViewsModel", name := "look", desc := "(I)I" } : Jvm.MethodName)) ∈ lw_all := lw_g (lw_at lw_m5 191 rfl) rfl
theorem q1219 : (Jvm.Cond.methodLink "RentedViewsLaw" (125 : Nat) ({ cls := "RentedViewsModel", name := "odds", desc := "(I)I" } : Jvm.MethodName)) ∈ lw_all := lw_g (lw_at lw_m5 199 rfl) rfl
theorem q1228 : (Jvm.Cond.methodLink "RentedViewsLaw" (129 : Nat) ({ cls := "RentedViewsModel", name := "drawn", desc := "(III)I" } : Jvm.MethodName)) ∈ lw_all := lw_g (lw_at lw_m5 208 rfl) rfl
theorem q1239 : (Jvm.Cond.methodLink "RentedViewsLaw" (37 : Nat) ({ cls := "RentedViewsModel", name := "type", desc := "(I)I" } : Jvm.MethodName)) ∈ lw_all := lw_g (lw_at lw_m5 219 rfl) rfl
theorem q1244 : (Jvm.Cond.methodLink "RentedViewsLaw" (41 : Nat) ({ cls := "RentedViewsModel", name := "clear", desc := "()I" } : Jvm.MethodName)) ∈ lw_all := lw_g (lw_at lw_m5 224 rfl) rfl
theorem q1248 : (Jvm.Cond.methodLink "RentedViewsLaw" (45 : Nat) ({ cls := "RentedViewsModel", name := "read", desc := "()I" } : Jvm.MethodName)) ∈ lw_all := lw_g (lw_at lw_m5 228 rfl) rfl
theorem q1294 : (Jvm.Cond.methodLink "RentedViewsLaw" (134 : Nat) ({ cls := "RentedViewsModel", name := "part", desc := "(I)J" } : Jvm.MethodName)) ∈ lw_all := lw_g (lw_at lw_m6 34 rfl) rfl
theorem q1298 : (Jvm.Cond.methodLink "RentedViewsLaw" (138 : Nat) ({ cls := "RentedViewsModel", name := "image", desc := "(I)I" } : Jvm.MethodName)) ∈ lw_all := lw_g (lw_at lw_m6 38 rfl) rfl
theorem q1302 : (Jvm.Cond.methodLink "RentedViewsLaw" (142 : Nat) ({ cls := "RentedViewsModel", name := "from", desc := "(I)I" } : Jvm.MethodName)) ∈ lw_all := lw_g (lw_at lw_m6 42 rfl) rfl
theorem q1306 : (Jvm.Cond.methodLink "RentedViewsLaw" (146 : Nat) ({ cls := "RentedViewsModel", name := "status", desc := "(I)I" } : Jvm.MethodName)) ∈ lw_all := lw_g (lw_at lw_m6 46 rfl) rfl
theorem q1310 : (Jvm.Cond.methodLink "RentedViewsLaw" (150 : Nat) ({ cls := "RentedViewsModel", name := "count", desc := "(I)I" } : Jvm.MethodName)) ∈ lw_all := lw_g (lw_at lw_m6 50 rfl) rfl
theorem q1323 : (Jvm.Cond.methodLink "RentedViewsLaw" (155 : Nat) ({ cls := "RentedViewsModel", name := "digest", desc := "()J" } : Jvm.MethodName)) ∈ lw_all := lw_g (lw_at lw_m6 63 rfl) rfl
theorem q80 : (Jvm.Cond.initialized "java/lang/System") ∈ lw_all := lw_g (lw_at lw_m1 20 rfl) rfl
set_option maxRecDepth 100000
theorem q593 : (Jvm.Cond.static ({ cls := "java/lang/System", name := "arraycopy", desc := "(Ljava/lang/Object;ILjava/lang/Object;II)V" } : Jvm.MethodName)) ∈ lw_all := lw_g (lw_at lw_m3 53 rfl) rfl
theorem q594 : (Jvm.Cond.native ({ cls := "java/lang/System", name := "arraycopy", desc := "(Ljava/lang/Object;ILjava/lang/Object;II)V" } : Jvm.MethodName)) ∈ lw_all := lw_g (lw_at lw_m3 54 rfl) rfl
