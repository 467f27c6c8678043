set_option maxRecDepth 100000
/-! what calls of the Model's own methods ask of the tables -/
theorem rv_nar (b : Bool) : narrow .boolean (.int (rb_i b)) = .int (rb_i b) := by cases b <;> rfl
section RS
variable {p : Program} {l : Launch} {e : Env} {R : Room} {s : State} {m : MethodId} {args : Array Value} {below : List Frame} {meth : Method} {c : Code} {H : Heap} {locs : List Loc} {Q : State → Prop}
variable {cc : ByteArray} {pc nL : Nat} {ls : Array Slot} {rest st0 : List Value}
variable {y : MethodName} {bytes : ByteArray} {maxL idx k fr lo : Nat} {ret : Option FieldType} {As : List Value}
theorem rv_sSe {v : Int32} (S : CallFix p m c cc nL s args lw_all RX5) (hM : Met l y (ws_ y bytes maxL ret) { frames := fr, cells := 0, slots := 0, locals := lo } (fun v _ => v = As.toArray) (vp_Si (fun r => r = v)) 0 0 (fun _ => False)) (K : mdCardS y bytes maxL ret idx k) (hn : As.length = k) (hst : st0 = As.reverse ++ rest) (hR : fr + 1 ≤ R.frames ∧ 8 + (maxL + 11) + lo ≤ R.locals) (hsz : ls.size = nL) (hw : (rest.map fun v => v.category).sum ≤ 8) (hdg : decode cc pc = .ok (.invokestatic idx, 3))
    (kk : W p l e R s m args below meth c H locs 0 0 Q (F0 m (pc + 3) ls (.int v :: rest))) : W p l e R s m args below meth c H locs 0 0 Q (F0 m pc ls st0) :=
  vp_callSi (W.runS (As := As) (rest := rest) (nL := nL) (cc := cc) S hM (va_cwS k S.2.2.2.2 (lw_S K.1 K.2.1 (by rw [K.2.2.2.1]; exact q66) K.2.2.1) rfl rfl rfl K.2.2.2.2 hR) preEq rfl hn hsz hst (lv_room hw) hdg md_0) (fun r er => by rw [er]; exact kk)
end RS
theorem card_views : mdCard yX5_views cX5_views 1 (some .int) 60 0 := ⟨q983, q985, qs22, q986, by decide +kernel⟩
theorem card_begin : mdCardS yX5_begin cX5_begin 2 none 75 1 := ⟨q987, q988, q989, by decide +kernel⟩
theorem card_isViewTold : mdCardS yX5_isViewTold cX5_isViewTold 4 (some .boolean) 85 4 := ⟨q994, q995, q996, by decide +kernel⟩
theorem card_in : mdCardS yX5_in cX5_in 6 (some .boolean) 64 3 := ⟨q998, q999, q1000, by decide +kernel⟩
theorem card_isWeather : mdCardS yX5_isWeather cX5_isWeather 1 (some .boolean) 81 1 := ⟨q1003, q1004, q1005, by decide +kernel⟩
theorem card_bad : mdCard yX5_bad cX5_bad 2 (some .int) 89 1 := ⟨q1006, q1008, qs23, q1009, by decide +kernel⟩
theorem card_full : mdCard yX5_full cX5_full 1 (some .int) 93 0 := ⟨q1010, q1012, qs24, q1013, by decide +kernel⟩
theorem card_layView : mdCardS yX5_layView cX5_layView 6 none 96 5 := ⟨q1014, q1015, q1016, by decide +kernel⟩
theorem card_isRenterTold : mdCardS yX5_isRenterTold cX5_isRenterTold 3 (some .boolean) 104 3 := ⟨q1021, q1022, q1023, by decide +kernel⟩
theorem card_renters : mdCard yX5_renters cX5_renters 1 (some .int) 68 0 := ⟨q1026, q1028, qs25, q1029, by decide +kernel⟩
theorem card_layRenter : mdCardS yX5_layRenter cX5_layRenter 5 none 108 4 := ⟨q1030, q1031, q1032, by decide +kernel⟩
theorem card_isView : mdCard yX5_isView cX5_isView 2 (some .boolean) 112 1 := ⟨q1037, q1039, qs26, q1040, by decide +kernel⟩
theorem card_viewHas : mdCard yX5_viewHas cX5_viewHas 3 (some .int) 117 2 := ⟨q1042, q1044, qs27, q1045, by decide +kernel⟩
theorem card_isRenter : mdCard yX5_isRenter cX5_isRenter 2 (some .boolean) 148 1 := ⟨q1050, q1052, qs28, q1053, by decide +kernel⟩
theorem card_layHand : mdCard yX5_layHand cX5_layHand 2 none 151 0 := ⟨q1054, q1056, qs29, q1057, by decide +kernel⟩
theorem card_costOf : mdCardS yX5_costOf cX5_costOf 2 (some .int) 128 2 := ⟨q1058, q1059, q1060, by decide +kernel⟩
theorem card_renterHas : mdCard yX5_renterHas cX5_renterHas 3 (some .int) 135 2 := ⟨q1061, q1063, qs30, q1064, by decide +kernel⟩
theorem card_viewOf : mdCard yX5_viewOf cX5_viewOf 4 (some .int) 154 1 := ⟨q1065, q1067, qs31, q1068, by decide +kernel⟩
theorem card_fits : mdCard yX5_fits cX5_fits 3 (some .boolean) 138 2 := ⟨q1069, q1071, qs32, q1072, by decide +kernel⟩
theorem card_no : mdCard yX5_no cX5_no 1 (some .int) 157 0 := ⟨q1073, q1075, qs33, q1076, by decide +kernel⟩
theorem card_keep : mdCard yX5_keep cX5_keep 3 none 160 0 := ⟨q1077, q1079, qs34, q1080, by decide +kernel⟩
theorem card_remember : mdCard yX5_remember cX5_remember 4 none 163 2 := ⟨q1081, q1083, qs35, q1084, by decide +kernel⟩
theorem card_showsIn : mdCard yX5_showsIn cX5_showsIn 3 (some .int) 142 2 := ⟨q1098, q1100, qs36, q1101, by decide +kernel⟩
theorem card_weatherOf : mdCardS yX5_weatherOf cX5_weatherOf 3 (some .int) 124 3 := ⟨q1102, q1103, q1104, by decide +kernel⟩
theorem card_lake : mdCardS yX5_lake cX5_lake 2 (some .int) 121 2 := ⟨q1105, q1106, q1107, by decide +kernel⟩
theorem card_isEvening : mdCardS yX5_isEvening cX5_isEvening 1 (some .boolean) 171 1 := ⟨q1117, q1118, q1119, by decide +kernel⟩
theorem card_doesSuit : mdCard yX5_doesSuit cX5_doesSuit 4 (some .boolean) 145 3 := ⟨q1124, q1126, qs37, q1127, by decide +kernel⟩
theorem card_layBest : mdCard yX5_layBest cX5_layBest 4 none 195 1 := ⟨q1133, q1135, qs38, q1136, by decide +kernel⟩
theorem card_laySuit : mdCard yX5_laySuit cX5_laySuit 4 none 180 1 := ⟨q1137, q1139, qs39, q1140, by decide +kernel⟩
theorem card_judgeRow : mdCard yX5_judgeRow cX5_judgeRow 4 none 184 0 := ⟨q1141, q1143, qs40, q1144, by decide +kernel⟩
theorem card_freeBut : mdCard yX5_freeBut cX5_freeBut 4 (some .int) 187 1 := ⟨q1145, q1147, qs41, q1148, by decide +kernel⟩
theorem card_nextView : mdCard yX5_nextView cX5_nextView 4 (some .int) 190 2 := ⟨q1149, q1151, qs42, q1152, by decide +kernel⟩
theorem card_allRenters : mdCard yX5_allRenters cX5_allRenters 1 (some .int) 206 0 := ⟨q1162, q1164, qs43, q1165, by decide +kernel⟩
theorem card_layCome : mdCard yX5_layCome cX5_layCome 8 none 209 2 := ⟨q1166, q1168, qs44, q1169, by decide +kernel⟩
theorem card_areOpposite : mdCard yX5_areOpposite cX5_areOpposite 2 (some .boolean) 212 1 := ⟨q1182, q1184, qs45, q1185, by decide +kernel⟩
theorem card_mayBe : mdCard yX5_mayBe cX5_mayBe 7 (some .boolean) 216 3 := ⟨q1207, q1209, qs46, q1210, by decide +kernel⟩
theorem card_mostLike : mdCard yX5_mostLike cX5_mostLike 6 (some .int) 219 2 := ⟨q1215, q1217, qs47, q1218, by decide +kernel⟩
theorem card_fraction : mdCard yX5_fraction cX5_fraction 11 none 227 2 := ⟨q1224, q1226, qs48, q1227, by decide +kernel⟩
theorem card_lookAt : mdCard yX5_lookAt cX5_lookAt 5 none 276 1 := ⟨q1252, q1254, qs49, q1255, by decide +kernel⟩
theorem card_isSmall : mdCardS yX5_isSmall cX5_isSmall 1 (some .boolean) 270 1 := ⟨q1256, q1257, q1258, by decide +kernel⟩
theorem card_isFigure : mdCardS yX5_isFigure cX5_isFigure 1 (some .boolean) 273 1 := ⟨q1261, q1262, q1263, by decide +kernel⟩
theorem card_isCalled : mdCard yX5_isCalled cX5_isCalled 10 (some .boolean) 285 7 := ⟨q1266, q1268, qs50, q1269, by decide +kernel⟩
theorem card_goBehind : mdCard yX5_goBehind cX5_goBehind 1 none 279 0 := ⟨q1270, q1272, qs51, q1273, by decide +kernel⟩
theorem card_takesItem : mdCard yX5_takesItem cX5_takesItem 1 (some .boolean) 299 0 := ⟨q1274, q1276, qs52, q1277, by decide +kernel⟩
theorem card_takesView : mdCard yX5_takesView cX5_takesView 1 (some .boolean) 289 0 := ⟨q1278, q1280, qs53, q1281, by decide +kernel⟩
theorem card_takes : mdCard yX5_takes cX5_takes 4 (some .boolean) 282 3 := ⟨q1282, q1284, qs54, q1285, by decide +kernel⟩
theorem card_takesRenter : mdCard yX5_takesRenter cX5_takesRenter 1 (some .boolean) 293 0 := ⟨q1286, q1288, qs55, q1289, by decide +kernel⟩
theorem card_takesThing : mdCard yX5_takesThing cX5_takesThing 1 (some .boolean) 296 0 := ⟨q1290, q1292, qs56, q1293, by decide +kernel⟩
theorem card_counted : mdCard yX5_counted cX5_counted 2 (some .int) 307 1 := ⟨q1315, q1317, qs57, q1318, by decide +kernel⟩
theorem card_manyLet : mdCard yX5_manyLet cX5_manyLet 3 (some .int) 302 0 := ⟨q1319, q1321, qs58, q1322, by decide +kernel⟩
theorem card_sums : mdCard yX5_sums cX5_sums 8 (some .long) 314 3 := ⟨q1329, q1331, qs59, q1332, by decide +kernel⟩
