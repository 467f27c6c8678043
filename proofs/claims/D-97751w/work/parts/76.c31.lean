set_option maxRecDepth 100000
/-! the law: its cases -/
theorem xkv__law_13 : xKV R_law yX0_shop cX0_shop 2 (some .int) 13 0 := ⟨q295, q296, q297, q61, q298, by decide +kernel⟩
theorem xkv__law_17 : xKV R_law yX5_shop cX5_shop 2 (some .int) 17 0 := ⟨q979, q980, q981, q66, q982, by decide +kernel⟩
theorem xkv__law_18 : xKV R_law yX0_view cX0_view 5 (some .int) 18 4 := ⟨q299, q300, q301, q61, q302, by decide +kernel⟩
theorem xkv__law_22 : xKV R_law yX5_view cX5_view 5 (some .int) 22 4 := ⟨q990, q991, q992, q66, q993, by decide +kernel⟩
theorem xkv__law_23 : xKV R_law yX0_renter cX0_renter 4 (some .int) 23 3 := ⟨q400, q401, q402, q61, q403, by decide +kernel⟩
theorem xkv__law_27 : xKV R_law yX5_renter cX5_renter 4 (some .int) 27 3 := ⟨q1017, q1018, q1019, q66, q1020, by decide +kernel⟩
theorem xkv__law_28 : xKV R_law yX0_things cX0_things 4 (some .int) 28 2 := ⟨q413, q414, q415, q61, q416, by decide +kernel⟩
theorem xkv__law_32 : xKV R_law yX5_things cX5_things 4 (some .int) 32 2 := ⟨q1033, q1034, q1035, q66, q1036, by decide +kernel⟩
theorem xkv__law_33 : xKV R_law yX0_type cX0_type 2 (some .int) 33 1 := ⟨q422, q423, q424, q61, q425, by decide +kernel⟩
theorem xkv__law_37 : xKV R_law yX5_type cX5_type 2 (some .int) 37 1 := ⟨q1239, q1240, q1241, q66, q1242, by decide +kernel⟩
theorem xkv__law_38 : xKV R_law yX0_clear cX0_clear 2 (some .int) 38 0 := ⟨q427, q428, q429, q61, q430, by decide +kernel⟩
theorem xkv__law_41 : xKV R_law yX5_clear cX5_clear 2 (some .int) 41 0 := ⟨q1244, q1245, q1246, q66, q1247, by decide +kernel⟩
theorem xkv__law_45 : xKV R_law yX5_read cX5_read 3 (some .int) 45 0 := ⟨q1248, q1249, q1250, q66, q1251, by decide +kernel⟩
theorem xkv__law_46 : xKV R_law yX0_let cX0_let 6 (some .int) 46 2 := ⟨q600, q601, q602, q61, q603, by decide +kernel⟩
theorem xkv__law_49 : xKV R_law yX5_let cX5_let 4 (some .int) 49 2 := ⟨q1046, q1047, q1048, q66, q1049, by decide +kernel⟩
theorem xkv__law_50 : xKV R_law yX0_night cX0_night 1 (some .int) 50 0 := ⟨q660, q661, q662, q61, q663, by decide +kernel⟩
theorem xkv__law_53 : xKV R_law yX5_night cX5_night 2 (some .int) 53 0 := ⟨q1085, q1086, q1087, q66, q1088, by decide +kernel⟩
theorem xkv__law_54 : xKV R_law yX0_undo cX0_undo 1 (some .int) 54 0 := ⟨q667, q668, q669, q61, q670, by decide +kernel⟩
theorem xkv__law_57 : xKV R_law yX5_undo cX5_undo 3 (some .int) 57 0 := ⟨q1089, q1090, q1091, q66, q1092, by decide +kernel⟩
theorem xkv__law_58 : xKV R_law yX0_of cX0_of 4 (some .int) 58 2 := ⟨q672, q673, q674, q61, q675, by decide +kernel⟩
theorem xkv__law_61 : xKV R_law yX5_of cX5_of 3 (some .int) 61 2 := ⟨q1093, q1094, q1095, q66, q1096, by decide +kernel⟩
theorem xkv__law_62 : xKV R_law yX0_about cX0_about 4 (some .int) 62 2 := ⟨q728, q729, q730, q61, q731, by decide +kernel⟩
theorem xkv__law_65 : xKV R_law yX5_about cX5_about 3 (some .int) 65 2 := ⟨q1108, q1109, q1110, q66, q1111, by decide +kernel⟩
theorem xkv__law_66 : xKV R_law yX0_shows cX0_shows 3 (some .int) 66 2 := ⟨q733, q734, q735, q61, q736, by decide +kernel⟩
theorem xkv__law_69 : xKV R_law yX5_shows cX5_shows 3 (some .int) 69 2 := ⟨q1113, q1114, q1115, q66, q1116, by decide +kernel⟩
theorem xkv__law_70 : xKV R_law yX0_suits cX0_suits 4 (some .int) 70 3 := ⟨q740, q741, q742, q61, q743, by decide +kernel⟩
theorem xkv__law_73 : xKV R_law yX5_suits cX5_suits 4 (some .int) 73 3 := ⟨q1120, q1121, q1122, q66, q1123, by decide +kernel⟩
theorem xkv__law_74 : xKV R_law yX0_best cX0_best 3 (some .int) 74 2 := ⟨q751, q752, q753, q61, q754, by decide +kernel⟩
theorem xkv__law_77 : xKV R_law yX5_best cX5_best 3 (some .int) 77 2 := ⟨q1128, q1129, q1130, q66, q1131, by decide +kernel⟩
theorem xkv__law_78 : xKV R_law yX0_money cX0_money 2 (some .int) 78 1 := ⟨q766, q767, q768, q61, q769, by decide +kernel⟩
theorem xkv__law_81 : xKV R_law yX5_money cX5_money 2 (some .int) 81 1 := ⟨q1153, q1154, q1155, q66, q1156, by decide +kernel⟩
theorem xkv__law_82 : xKV R_law yX0_come cX0_come 3 (some .int) 82 2 := ⟨q770, q771, q772, q61, q773, by decide +kernel⟩
theorem xkv__law_85 : xKV R_law yX5_come cX5_come 3 (some .int) 85 2 := ⟨q1157, q1158, q1159, q66, q1160, by decide +kernel⟩
theorem xkv__law_86 : xKV R_law yX0_more cX0_more 8 (some .int) 86 4 := ⟨q783, q784, q785, q61, q786, by decide +kernel⟩
theorem xkv__law_89 : xKV R_law yX5_more cX5_more 6 (some .int) 89 4 := ⟨q1170, q1171, q1172, q66, q1173, by decide +kernel⟩
theorem xkv__law_90 : xKV R_law yX0_changed cX0_changed 7 (some .int) 90 2 := ⟨q787, q788, q789, q61, q790, by decide +kernel⟩
theorem xkv__law_93 : xKV R_law yX5_changed cX5_changed 6 (some .int) 93 2 := ⟨q1174, q1175, q1176, q66, q1177, by decide +kernel⟩
theorem xkv__law_94 : xKV R_law yX0_air cX0_air 2 (some .int) 94 1 := ⟨q794, q795, q796, q61, q797, by decide +kernel⟩
theorem xkv__law_97 : xKV R_law yX5_air cX5_air 4 (some .int) 97 1 := ⟨q1178, q1179, q1180, q66, q1181, by decide +kernel⟩
theorem xkv__law_98 : xKV R_law yX0_bring cX0_bring 12 (some .int) 98 3 := ⟨q802, q803, q804, q61, q805, by decide +kernel⟩
theorem xkv__law_101 : xKV R_law yX5_bring cX5_bring 10 (some .int) 101 3 := ⟨q1186, q1187, q1188, q66, q1189, by decide +kernel⟩
theorem xkv__law_102 : xKV R_law yX0_left cX0_left 8 (some .int) 102 3 := ⟨q806, q807, q808, q61, q809, by decide +kernel⟩
theorem xkv__law_105 : xKV R_law yX5_left cX5_left 7 (some .int) 105 3 := ⟨q1191, q1192, q1193, q66, q1194, by decide +kernel⟩
theorem xkv__law_106 : xKV R_law yX0_reading cX0_reading 5 (some .int) 106 3 := ⟨q811, q812, q813, q61, q814, by decide +kernel⟩
theorem xkv__law_109 : xKV R_law yX5_reading cX5_reading 5 (some .int) 109 3 := ⟨q1195, q1196, q1197, q66, q1198, by decide +kernel⟩
theorem xkv__law_110 : xKV R_law yX0_forget cX0_forget 2 (some .int) 110 0 := ⟨q815, q816, q817, q61, q818, by decide +kernel⟩
theorem xkv__law_113 : xKV R_law yX5_forget cX5_forget 2 (some .int) 113 0 := ⟨q1199, q1200, q1201, q66, q1202, by decide +kernel⟩
theorem xkv__law_114 : xKV R_law yX0_is cX0_is 6 (some .int) 114 2 := ⟨q819, q820, q821, q61, q822, by decide +kernel⟩
theorem xkv__law_117 : xKV R_law yX5_is cX5_is 7 (some .int) 117 2 := ⟨q1203, q1204, q1205, q66, q1206, by decide +kernel⟩
theorem xkv__law_118 : xKV R_law yX0_look cX0_look 9 (some .int) 118 1 := ⟨q829, q830, q831, q61, q832, by decide +kernel⟩
theorem xkv__law_121 : xKV R_law yX5_look cX5_look 6 (some .int) 121 1 := ⟨q1211, q1212, q1213, q66, q1214, by decide +kernel⟩
theorem xkv__law_122 : xKV R_law yX0_odds cX0_odds 10 (some .int) 122 1 := ⟨q837, q838, q839, q61, q840, by decide +kernel⟩
theorem xkv__law_125 : xKV R_law yX5_odds cX5_odds 10 (some .int) 125 1 := ⟨q1219, q1220, q1221, q66, q1222, by decide +kernel⟩
theorem xkv__law_126 : xKV R_law yX0_drawn cX0_drawn 10 (some .int) 126 3 := ⟨q845, q846, q847, q61, q848, by decide +kernel⟩
theorem xkv__law_129 : xKV R_law yX5_drawn cX5_drawn 10 (some .int) 129 3 := ⟨q1228, q1229, q1230, q66, q1231, by decide +kernel⟩
theorem xkv__law_130 : xKV R_law yX0_part cX0_part 2 (some .long) 130 1 := ⟨q856, q857, q858, q61, q859, by decide +kernel⟩
theorem xkv__law_134 : xKV R_law yX5_part cX5_part 2 (some .long) 134 1 := ⟨q1294, q1295, q1296, q66, q1297, by decide +kernel⟩
theorem xkv__law_135 : xKV R_law yX0_image cX0_image 2 (some .int) 135 1 := ⟨q860, q861, q862, q61, q863, by decide +kernel⟩
theorem xkv__law_138 : xKV R_law yX5_image cX5_image 3 (some .int) 138 1 := ⟨q1298, q1299, q1300, q66, q1301, by decide +kernel⟩
theorem xkv__law_139 : xKV R_law yX0_from cX0_from 2 (some .int) 139 1 := ⟨q864, q865, q866, q61, q867, by decide +kernel⟩
theorem xkv__law_142 : xKV R_law yX5_from cX5_from 3 (some .int) 142 1 := ⟨q1302, q1303, q1304, q66, q1305, by decide +kernel⟩
theorem xkv__law_143 : xKV R_law yX0_status cX0_status 2 (some .int) 143 1 := ⟨q868, q869, q870, q61, q871, by decide +kernel⟩
theorem xkv__law_146 : xKV R_law yX5_status cX5_status 2 (some .int) 146 1 := ⟨q1306, q1307, q1308, q66, q1309, by decide +kernel⟩
theorem xkv__law_147 : xKV R_law yX0_count cX0_count 2 (some .int) 147 1 := ⟨q872, q873, q874, q61, q875, by decide +kernel⟩
theorem xkv__law_150 : xKV R_law yX5_count cX5_count 2 (some .int) 150 1 := ⟨q1310, q1311, q1312, q66, q1313, by decide +kernel⟩
theorem xkv__law_151 : xKV R_law yX0_digest cX0_digest 6 (some .long) 151 0 := ⟨q885, q886, q887, q61, q888, by decide +kernel⟩
theorem xkv__law_155 : xKV R_law yX5_digest cX5_digest 4 (some .long) 155 0 := ⟨q1323, q1324, q1325, q66, q1326, by decide +kernel⟩
theorem RX.sz {dC : Nat → ClassId} {dI : Nat → Nat → Nat} {dA : Nat → ClassId} {c n : Nat} {σ : mdT} {ab be : Int64} {H : Heap} (h : RX dC dI dA c n σ ab be H) : n + 112 ≤ H.size := by
  obtain ⟨T, ξ, V, V2, im, many, rent, rd, un, hs, ev, ty, hP, hR, ho, hO⟩ := h
  exact hO.2.2.2.2
theorem RX.nums {dC : Nat → ClassId} {dI : Nat → Nat → Nat} {dA : Nat → ClassId} {c n : Nat} {σ : mdT} {ab be : Int64} {H : Heap} (h : RX dC dI dA c n σ ab be H) : ∃ many rent rd un hs ev ty, (σ 0 0 = nI many ∧ many ≤ 6) ∧ (σ 0 1 = nI rent ∧ rent ≤ 6) ∧ (σ 0 5 = nI rd ∧ rd ≤ 6) ∧ (σ 0 6 = nI un ∧ un ≤ 8) ∧ (σ 0 4 = nI hs ∧ hs ≤ 12) ∧ (σ 0 2 = nI ev ∧ ev ≤ c) ∧ (σ 15 5 = nI ty ∧ ty ≤ 150) := by
  obtain ⟨T, ξ, V, V2, im, many, rent, rd, un, hs, ev, ty, hP, hR, ho, hO⟩ := h
  exact ⟨many, rent, rd, un, hs, ev, ty, ⟨hR.f0, hR.m6⟩, ⟨hR.f1, hR.r6⟩, ⟨hR.f5, hR.d6⟩, ⟨hR.f6, hR.u8⟩, ⟨hR.f4, hR.h12⟩, ⟨hR.f2, hR.evc⟩, ho.2.1, ho.1⟩
/-- what stays true of the start -/
def lwK (dC : Nat → ClassId) (dI : Nat → Nat → Nat) (s : State) (n b L : Nat) (xs : Nat → Int32) (t_ : Nat) (ad adK adV : Nat → Nat) (fm us sb : Nat) : Prop :=
  n = s.heap.size ∧ va_X b L xs s s.heap ∧ b < n ∧ L ≤ 320 ∧ xZa n t_ ad s s.heap ∧ alV dC dI n ad s.heap ∧ xZr n adK adV fm us sb s s.heap
/-- the two, side by side -/
def lwS (dC : Nat → ClassId) (dI : Nat → Nat → Nat) (dA : Nat → ClassId) (n c : Nat) (σ : mdT) (ab be : Int64) (H0 H : Heap) : Prop :=
  RX dC dI dA c n σ ab be H ∧ mdP dC dI dA (n + 96) σ ab be H ∧ va_S (fun q => n ≤ q) H0 H []
abbrev lwL (b n k : Nat) : List (Nat × Value) := [(0, .ref b), (1, .ref n), (2, .ref (n + 96)), (3, .int (nI (5 * k)))]
def lwB (p : Program) (l : Launch) (e : Env) (s : State) (m : MethodId) (below : List Frame) (meth : Method) (c : Code) (b n : Nat) (dC : Nat → ClassId) (dI : Nat → Nat → Nat) (dA : Nat → ClassId) (k : Nat) : Prop :=
  ∀ (σ : mdT) (ab be : Int64) (H : Heap) (ls : Array Slot), lwS dC dI dA n (k + 1) σ ab be s.heap H → lv_has ls 4 (lwL b n k) → W p l e room_1 s m #[Value.ref b] below meth c H [] (200 + 1400 * (k + 1)) (3300 + 10300 * (k + 1)) (lw_Z below #[Value.ref b] s) (F0 m 1168 ls [])
section LWF
variable {p : Program} {l : Launch} {e : Env} {R : Room} {s : State} {m : MethodId} {args : Array Value} {below : List Frame} {meth : Method} {c : Code} {H : Heap} {locs : List Loc} {cells slots : Nat} {Q : State → Prop} {n : Nat}
theorem W.fgtn {g : JFrame} (hn : n = s.heap.size) (hS : va_S (fun q => n ≤ q) s.heap H locs) (kk : W p l e R s m args below meth c H [] cells slots Q g) : W p l e R s m args below meth c H locs cells slots Q g := by
  subst hn; exact W.fgt hS kk
end LWF
theorem lw_keepM {dC : Nat → ClassId} {dI : Nat → Nat → Nat} {dA : Nat → ClassId} {n : Nat} {σ : mdT} {ab be : Int64} {H H1 : Heap} {A : Nat → Prop} (h : mdP dC dI dA (n + 96) σ ab be H) (hz : n + 112 ≤ H.size) (hA : ∀ q, n + 96 ≤ q → q < n + 112 → ¬ A q) (hk : ∀ q : Nat, q < H.size → ¬ A q → H1[q]? = H[q]?) : mdP dC dI dA (n + 96) σ ab be H1 :=
  h.keep (fun q hq => hk q (by have := hq.2; omega) (hA q hq.1 (by have := hq.2; omega)))
theorem RX.recv {dC : Nat → ClassId} {dI : Nat → Nat → Nat} {dA : Nat → ClassId} {c n : Nat} {σ : mdT} {ab be : Int64} {H : Heap} {s : State} (hK : rvK dC dI dA s) (h : RX dC dI dA c n σ ab be H) : xRecv s H RX0 n := by
  obtain ⟨T, ξ, V, V2, im, many, rent, rd, un, hs, ev, ty, hP, hR, ho, hO⟩ := h
  exact x_recv (ci := 0) hK hP (j := 0) (by decide) (xe_x0 ..) rfl
theorem lw_alV {dC : Nat → ClassId} {dI : Nat → Nat → Nat} {n : Nat} {ad : Nat → Nat} {H H1 : Heap} {locs : List Loc} (h : alV dC dI n ad H) (hS : va_S (fun q => n ≤ q) H H1 locs) : alV dC dI n ad H1 := fun p hp =>
  ⟨(h p hp).1, (h p hp).2.kept0 (hS.2.1 (ad p) (h p hp).2.lt (Nat.not_le.mpr (h p hp).1))⟩
def xKW (own : String) (y : MethodName) (bytes : ByteArray) (maxL : Nat) (ret : Option FieldType) (hh : List (Nat × Nat × Nat × Nat)) (idx k : Nat) : Prop :=
  Cond.methodLink own idx y ∈ lw_all ∧ Cond.instanceMethod y ∈ lw_all ∧ Cond.selects y.cls y y ∈ lw_all ∧ Cond.initialized y.cls ∈ lw_all ∧ Cond.codeWith y bytes maxL ret hh ∈ lw_all ∧ xOk y k
section XWW
variable {p : Program} {l : Launch} {e : Env} {R : Room} {s : State} {m : MethodId} {args : Array Value} {below : List Frame} {meth : Method} {c : Code} {H : Heap} {locs : List Loc} {cells slots mc ms : Nat} {Q : State → Prop}
variable {cc : ByteArray} {pc nL : Nat} {ls : Array Slot} {rest st0 : List Value} {dC : Nat → ClassId} {dI : Nat → Nat → Nat} {dA : Nat → ClassId} {H0 : Heap} {own : String} {b idx k fr lo maxL : Nat} {y : MethodName} {bytes : ByteArray} {ret : Option FieldType} {As : List Value} {free A0 A1 : Addr → Prop} {Qc : Array Value → State → Outcome → State → Prop} {P : Heap → Prop} {hh : List (Nat × Nat × Nat × Nat)}
theorem x_cWl {S : Type} {post : Int64 → S → Prop} {P1 : S → Heap → Prop} {a : Array Value} (hr : va_Run p l e R s m args below meth c H locs cells slots mc ms (F0 m pc ls st0) rest (xQl post P1 A1 a) free) (hS : va_S A0 H0 H locs) (hA : ∀ q, A1 q → A0 q) (hf : ∀ q, free q → A0 q)
    (kk : ∀ (r : Int64) (u : S) (H1 : Heap) (locs1 : List Loc), post r u → P1 u H1 → H.size ≤ H1.size → (∀ q : Nat, q < H.size → ¬ A1 q → H1[q]? = H[q]?) → va_S A0 H0 H1 locs1 → W p l e R s m args below meth c H1 locs1 (cells + mc) (slots + ms) Q (F0 m (pc + 3) ls (.long r :: rest))) : W p l e R s m args below meth c H locs cells slots Q (F0 m pc ls st0) :=
  va_calll hr hS (fun q _ h => hA q h) hf (fun r u t H1 locs1 ht _ hp hB hz hk hS1 => kk r u H1 locs1 hp (by rw [← ht]; exact hB) hz hk hS1)
theorem x_runVWw {Z : State → Heap → Prop} (hz : zW Z) (X : xC dC dI dA p s m c args cc nL own) (hN : rvN s) (hP : P H) (hZ : Z s H) (hM : Met l y (xWs_ y bytes maxL ret hh) { frames := fr, cells := mc, slots := ms, locals := lo } (xPz dC dI dA Z P (.ref b :: As)) Qc mc ms free) (K : xKW own y bytes maxL ret hh idx k) (hr : xRecv s H y.cls b) (hn : As.length = k) (hst : st0 = As.reverse ++ .ref b :: rest) (hR : fr + 1 ≤ R.frames ∧ 8 + (maxL + 11) + lo ≤ R.locals) (hsz : ls.size = nL) (hw : (rest.map fun v => v.category).sum ≤ 8) (hdg : decode cc pc = .ok (.invokevirtual idx, 3)) (hf : cells + mc ≤ R.cells ∧ slots + ms ≤ R.slots) :
    va_Run p l e R s m args below meth c H locs cells slots mc ms (F0 m pc ls st0) rest (Qc (Value.ref b :: As).toArray) free := by
  have hts := X.2.2.2.2.1
  obtain ⟨k1, k2, k3, k4, k5, kok⟩ := K
  have hgood : GoodIn lw_all (xWs_ y bytes maxL ret hh) := fun w h => by
    rcases List.mem_cons.mp h with rfl | h
    · exact ⟨k5, Or.inl rfl⟩
    · exact ⟨h, good_of_word (List.mem_filter.mp h).2⟩
  have hK : Back l R p e below s args y 3 8 (PreOf R mc ms (xPz dC dI dA Z P (.ref b :: As))) (PostOf Qc mc ms free) := va_backW (hh := hh) (bytes := bytes) (maxL := maxL) (ret := ret) hM (x_blindW hz) rfl rfl hR.1 hR.2 (pay_in hts hgood) List.mem_cons_self (fun a' U hW => word_at hW (Or.inl (by first | rfl | simp [Cond.onTables, Cond.keeps, Cond.steady])) (hts _ k4))
  obtain ⟨cellB, hcB, hoB, hclB⟩ := hr
  obtain ⟨mk, methM, hnamed, hmethM, hstM, habM⟩ := Cond.instanceMethod_spec (hts _ k2)
  obtain ⟨m9, methM', cM, hn9, hmethM', -, -, -, -, -, -, hsigM⟩ := Cond.codeWith_spec (hts _ k5)
  cases hn9.symm.trans hnamed
  cases hmethM.symm.trans hmethM'
  obtain ⟨c2, r2, m2, q1, q2, q3, q4, kP, hkP, hkPi⟩ := Cond.selects_spec (hts _ k3)
  cases hclB.symm.trans q1
  cases (State.methodFound?_of_named hnamed ⟨kok.1, kok.2.1⟩).symm.trans q2
  cases hnamed.symm.trans q3
  have hlen : ∀ sig, parseMethodDescriptor y.desc = some sig → As.length = sig.parameters.length := fun sig h => by
    have h2 := kok.2.2
    rw [h] at h2
    rw [hn]
    exact (Option.some.inj h2).symm
  intro T hT Y
  have hselP : selectMethod e.platform s.vm cellB.cls mk = .method mk := by rw [Launch.admits_selectMethod Y.admits]; exact q4
  obtain ⟨vm₁, X₁, hstep₁⟩ := Y.invokevirtual X.1 X.2.2.2.1 (hts _ k1) hnamed hmethM hstM hkP hkPi ⟨kok.1, kok.2.1⟩ (a := b) (cell := cellB) (by rw [hT]; exact hcB)
    (fun z h => by rw [h] at hoB; cases hoB) hselP hmethM habM hkP hkPi (g := F0 m pc ls st0) rfl (argsL := As) (rest := rest) (hlen _ hsigM) hst (by rw [X.2.1]; exact hdg)
  obtain ⟨v, ⟨U', l2, c2, s2⟩, X', ⟨g', mk', t, L, e1, e2, hq, h1, hL, h2, h3⟩, hsteps⟩ := hK m meth c ⟨T.setVm vm₁, locs, cells, slots⟩ { F0 m pc ls st0 with stack := rest } (.invokevirtual idx) mk (Value.ref b :: As).toArray X₁ rfl (hsz.trans X.2.2.1.symm) (by rw [X.2.1]; exact hdg) (lv_room hw) (X₁.named hnamed) ⟨hf.1, hf.2, ⟨rfl, ⟨by rw [show (T.setVm vm₁).heap = H from hT]; exact hP, by rw [show (T.setVm vm₁).heap = H from hT]; exact hz.1 s _ _ X₁.warmed hZ⟩, rvK.moved X₁.warmed.alike X.2.2.2.2.2, hN.warm X₁.warmed⟩⟩
  dsimp only [Pt.U, Pt.locs, Pt.cells, Pt.slots] at X' e1 e2 h1 h2 h3 hsteps
  subst h1; subst h2; subst h3
  exact ⟨v, (T.setVm vm₁).calling g' mk' (Value.ref b :: As).toArray, t, U', L, hT, X', hL, e1, e2, hq, fun target h => hstep₁ _ fun acts => by rw [doInvoke_state]; exact hsteps.trans h⟩
end XWW
theorem xkw_read : xKW R_law yX0_read cX0_read 2 (some .int) [(0, 20, 21, 152)] 42 0 := ⟨q431, q432, q433, q61, q434, by decide +kernel⟩
theorem lwc_0 {p : Program} {l : Launch} {e : Env} {s : State} {m : MethodId} {below : List Frame} {meth : Method} {c : Code} {b L : Nat} {xs : Nat → Int32} {dC : Nat → ClassId} {dI : Nat → Nat → Nat} {dA : Nat → ClassId} {n t_ : Nat} {ad adK adV : Nat → Nat} {fm us sb : Nat} (X : xC dC dI dA p s m c #[Value.ref b] code 4 R_law) (hN : rvN s) (Y : lwK dC dI s n b L xs t_ ad adK adV fm us sb) (k : Nat) (hk : 5 * k + 5 ≤ L) (back : lwB p l e s m below meth c b n dC dI dA k) (σ : mdT) (ab be : Int64) (H : Heap) (ls : Array Slot) (hs_ : lwS dC dI dA n k σ ab be s.heap H) (hl : lv_has ls 4 (lwL b n k)) : W p l e room_1 s m #[Value.ref b] below meth c H [] (200 + 1400 * k) (3300 + 10300 * k) (lw_Z below #[Value.ref b] s) (F0 m 184 ls []) := by
  obtain ⟨hn, hXs, hbn, hL3, hZa, hAl, hZr⟩ := Y
  obtain ⟨hRX, hMd, hS⟩ := hs_
  have hz112 := hRX.sz
  have hbl : b < s.heap.size := hn ▸ hbn
  have hbA : ¬ n ≤ b := by omega
  obtain ⟨many, rent, rd, un, hs, ev, ty, e0, e1, e5, e6, e4, e2, e15⟩ := hRX.nums
  refine lv_aload_n X.1 X.2.1 dL_law_184 rfl (lv_at hl 1 rfl) ?_
  refine x_cWi (x_runV X hN hRX (As := []) (rest := []) (x_X0_shop l dC dI dA n k σ ab be) xkv__law_13 (RX.recv X.2.2.2.2.2 hRX) rfl rfl ⟨Nat.le_of_ble_eq_true rfl, Nat.le_of_ble_eq_true rfl⟩ hl.1 (Nat.le_of_ble_eq_true rfl) dL_law_185 ⟨by show _ ≤ 601024; omega, by show _ ≤ 7293034; omega⟩) hS (fun q h => h.1) (fun q h => h.1) (fun rc _ H1 locs1 erc hRX1 hz1 hk1 hS1 => ?_)
  refine W.fgtn hn hS1 ?_
  replace hS := hS1.fg
  subst erc
  have hMd := lw_keepM hMd hz112 (fun q h1 h2 h3 => by have := h3.2; omega) hk1
  clear hk1 hz112
  have hz112 := hRX1.sz
  refine lv_aload_n X.1 X.2.1 dL_law_188 rfl (lv_at hl 2 rfl) ?_
  refine va_calli (md_runL X hMd (As := []) (rest := [.int ((sp_shop σ).1)]) (met_shop l dC dI dA (n + 96) σ ab be) xkv__law_17 rfl rfl rfl ⟨Nat.le_of_ble_eq_true rfl, Nat.le_of_ble_eq_true rfl⟩ hl.1 (Nat.le_of_ble_eq_true rfl) dL_law_189 ⟨by show _ ≤ 601024; omega, by show _ ≤ 7293034; omega⟩) hS (fun q _ h => by have := h.1; omega) (fun q h => by have := h.1; omega) (fun rm u t H2 locs2 et _ hp hB hz2 hk2 hS2 => ?_)
  refine W.fgtn hn hS2 ?_
  replace hS := hS2.fg
  subst et
  refine lv_icmp_eq (tgt := 1168) X.1 X.2.1 dL_law_192 (by decide) (fun _ => ?_) (fun hne => absurd (hp.1.symm) hne)
  refine W.pad (cells2 := 200 + 1400 * (k + 1)) (slots2 := 3300 + 10300 * (k + 1)) (by omega) (by omega) ?_
  have hRX2 := hRX1.kept hz2 hk2
  exact back u ab be _ ls ⟨(by rw [hp.2]; exact (hRX2.up (Nat.le_succ k))), hB.1, hS⟩ hl
theorem lwc_1 {p : Program} {l : Launch} {e : Env} {s : State} {m : MethodId} {below : List Frame} {meth : Method} {c : Code} {b L : Nat} {xs : Nat → Int32} {dC : Nat → ClassId} {dI : Nat → Nat → Nat} {dA : Nat → ClassId} {n t_ : Nat} {ad adK adV : Nat → Nat} {fm us sb : Nat} (X : xC dC dI dA p s m c #[Value.ref b] code 4 R_law) (hN : rvN s) (Y : lwK dC dI s n b L xs t_ ad adK adV fm us sb) (k : Nat) (hk : 5 * k + 5 ≤ L) (back : lwB p l e s m below meth c b n dC dI dA k) (σ : mdT) (ab be : Int64) (H : Heap) (ls : Array Slot) (hs_ : lwS dC dI dA n k σ ab be s.heap H) (hl : lv_has ls 4 (lwL b n k)) : W p l e room_1 s m #[Value.ref b] below meth c H [] (200 + 1400 * k) (3300 + 10300 * k) (lw_Z below #[Value.ref b] s) (F0 m 197 ls []) := by
  obtain ⟨hn, hXs, hbn, hL3, hZa, hAl, hZr⟩ := Y
  obtain ⟨hRX, hMd, hS⟩ := hs_
  have hz112 := hRX.sz
  have hbl : b < s.heap.size := hn ▸ hbn
  have hbA : ¬ n ≤ b := by omega
  obtain ⟨many, rent, rd, un, hs, ev, ty, e0, e1, e5, e6, e4, e2, e15⟩ := hRX.nums
  refine lv_aload_n X.1 X.2.1 dL_law_197 rfl (lv_at hl 1 rfl) ?_
  refine lv_aload_n X.1 X.2.1 dL_law_198 rfl (lv_at hl 0 rfl) ?_
  refine lv_iload_n X.1 X.2.1 dL_law_199 rfl (lv_at hl 3 rfl) ?_
  refine lv_iconst (v := nI 1) X.1 X.2.1 dL_law_200 rfl ?_
  refine rn_iadd X.1 X.2.1 dL_law_201 ?_
  refine va_sld X.1 X.2.1 hXs hbl hbA hS (i := nI ((5 * k) + 1)) (vp_in_nI (by omega) (by omega)) dL_law_202 ?_
  refine lv_aload_n X.1 X.2.1 dL_law_203 rfl (lv_at hl 0 rfl) ?_
  refine lv_iload_n X.1 X.2.1 dL_law_204 rfl (lv_at hl 3 rfl) ?_
  refine lv_iconst (v := nI 2) X.1 X.2.1 dL_law_205 rfl ?_
  refine rn_iadd X.1 X.2.1 dL_law_206 ?_
  refine va_sld X.1 X.2.1 hXs hbl hbA hS (i := nI ((5 * k) + 2)) (vp_in_nI (by omega) (by omega)) dL_law_207 ?_
  refine lv_aload_n X.1 X.2.1 dL_law_208 rfl (lv_at hl 0 rfl) ?_
  refine lv_iload_n X.1 X.2.1 dL_law_209 rfl (lv_at hl 3 rfl) ?_
  refine lv_iconst (v := nI 3) X.1 X.2.1 dL_law_210 rfl ?_
  refine rn_iadd X.1 X.2.1 dL_law_211 ?_
  refine va_sld X.1 X.2.1 hXs hbl hbA hS (i := nI ((5 * k) + 3)) (vp_in_nI (by omega) (by omega)) dL_law_212 ?_
  refine lv_aload_n X.1 X.2.1 dL_law_213 rfl (lv_at hl 0 rfl) ?_
  refine lv_iload_n X.1 X.2.1 dL_law_214 rfl (lv_at hl 3 rfl) ?_
  refine lv_iconst (v := nI 4) X.1 X.2.1 dL_law_215 rfl ?_
  refine rn_iadd X.1 X.2.1 dL_law_216 ?_
  refine va_sld X.1 X.2.1 hXs hbl hbA hS (i := nI ((5 * k) + 4)) (vp_in_nI (by omega) (by omega)) dL_law_217 ?_
  refine x_cWi (x_runV X hN ⟨hRX, rfl⟩ (As := [.int (xs (nI ((5 * k) + 1)).toNatClampNeg), .int (xs (nI ((5 * k) + 2)).toNatClampNeg), .int (xs (nI ((5 * k) + 3)).toNatClampNeg), .int (xs (nI ((5 * k) + 4)).toNatClampNeg)]) (rest := []) (x_X0_view l dC dI dA n k σ ab be H.size (xs (nI ((5 * k) + 1)).toNatClampNeg) (xs (nI ((5 * k) + 2)).toNatClampNeg) (xs (nI ((5 * k) + 3)).toNatClampNeg) (xs (nI ((5 * k) + 4)).toNatClampNeg)) xkv__law_18 (RX.recv X.2.2.2.2.2 hRX) rfl rfl ⟨Nat.le_of_ble_eq_true rfl, Nat.le_of_ble_eq_true rfl⟩ hl.1 (Nat.le_of_ble_eq_true rfl) dL_law_218 ⟨by show _ ≤ 601024; omega, by show _ ≤ 7293034; omega⟩) hS (fun q h => h.elim (fun h => h.1) (fun h => by have := hS.1; omega)) (fun q h => h.elim (fun h => h.1) (fun h => by have := hS.1; omega)) (fun rc _ H1 locs1 erc hRX1 hz1 hk1 hS1 => ?_)
  refine W.fgtn hn hS1 ?_
  replace hS := hS1.fg
  subst erc
  have hMd := lw_keepM hMd hz112 (fun q h1 h2 h3 => h3.elim (fun h3 => by have := h3.2; omega) (fun h3 => by omega)) hk1
  clear hk1 hz112
  have hz112 := hRX1.sz
  refine lv_aload_n X.1 X.2.1 dL_law_221 rfl (lv_at hl 2 rfl) ?_
  refine lv_aload_n X.1 X.2.1 dL_law_222 rfl (lv_at hl 0 rfl) ?_
  refine lv_iload_n X.1 X.2.1 dL_law_223 rfl (lv_at hl 3 rfl) ?_
  refine lv_iconst (v := nI 1) X.1 X.2.1 dL_law_224 rfl ?_
  refine rn_iadd X.1 X.2.1 dL_law_225 ?_
  refine va_sld X.1 X.2.1 hXs hbl hbA hS (i := nI ((5 * k) + 1)) (vp_in_nI (by omega) (by omega)) dL_law_226 ?_
  refine lv_aload_n X.1 X.2.1 dL_law_227 rfl (lv_at hl 0 rfl) ?_
  refine lv_iload_n X.1 X.2.1 dL_law_228 rfl (lv_at hl 3 rfl) ?_
  refine lv_iconst (v := nI 2) X.1 X.2.1 dL_law_229 rfl ?_
  refine rn_iadd X.1 X.2.1 dL_law_230 ?_
  refine va_sld X.1 X.2.1 hXs hbl hbA hS (i := nI ((5 * k) + 2)) (vp_in_nI (by omega) (by omega)) dL_law_231 ?_
  refine lv_aload_n X.1 X.2.1 dL_law_232 rfl (lv_at hl 0 rfl) ?_
  refine lv_iload_n X.1 X.2.1 dL_law_233 rfl (lv_at hl 3 rfl) ?_
  refine lv_iconst (v := nI 3) X.1 X.2.1 dL_law_234 rfl ?_
  refine rn_iadd X.1 X.2.1 dL_law_235 ?_
  refine va_sld X.1 X.2.1 hXs hbl hbA hS (i := nI ((5 * k) + 3)) (vp_in_nI (by omega) (by omega)) dL_law_236 ?_
  refine lv_aload_n X.1 X.2.1 dL_law_237 rfl (lv_at hl 0 rfl) ?_
  refine lv_iload_n X.1 X.2.1 dL_law_238 rfl (lv_at hl 3 rfl) ?_
  refine lv_iconst (v := nI 4) X.1 X.2.1 dL_law_239 rfl ?_
  refine rn_iadd X.1 X.2.1 dL_law_240 ?_
  refine va_sld X.1 X.2.1 hXs hbl hbA hS (i := nI ((5 * k) + 4)) (vp_in_nI (by omega) (by omega)) dL_law_241 ?_
  refine va_calli (md_runL X hMd (As := [.int (xs (nI ((5 * k) + 1)).toNatClampNeg), .int (xs (nI ((5 * k) + 2)).toNatClampNeg), .int (xs (nI ((5 * k) + 3)).toNatClampNeg), .int (xs (nI ((5 * k) + 4)).toNatClampNeg)]) (rest := [.int ((sp_view σ (xs (nI ((5 * k) + 1)).toNatClampNeg) (xs (nI ((5 * k) + 2)).toNatClampNeg) (xs (nI ((5 * k) + 3)).toNatClampNeg) (xs (nI ((5 * k) + 4)).toNatClampNeg)).1)]) (met_view l dC dI dA (n + 96) σ ab be (xs (nI ((5 * k) + 1)).toNatClampNeg) (xs (nI ((5 * k) + 2)).toNatClampNeg) (xs (nI ((5 * k) + 3)).toNatClampNeg) (xs (nI ((5 * k) + 4)).toNatClampNeg) many e0.1 e0.2) xkv__law_22 rfl rfl rfl ⟨Nat.le_of_ble_eq_true rfl, Nat.le_of_ble_eq_true rfl⟩ hl.1 (Nat.le_of_ble_eq_true rfl) dL_law_242 ⟨by show _ ≤ 601024; omega, by show _ ≤ 7293034; omega⟩) hS (fun q _ h => by have := h.1; omega) (fun q h => by have := h.1; omega) (fun rm u t H2 locs2 et _ hp hB hz2 hk2 hS2 => ?_)
  refine W.fgtn hn hS2 ?_
  replace hS := hS2.fg
  subst et
  refine lv_icmp_eq (tgt := 1168) X.1 X.2.1 dL_law_245 (by decide) (fun _ => ?_) (fun hne => absurd (hp.1.symm) hne)
  refine W.pad (cells2 := 200 + 1400 * (k + 1)) (slots2 := 3300 + 10300 * (k + 1)) (by omega) (by omega) ?_
  have hRX2 := hRX1.kept hz2 hk2
  exact back u ab be _ ls ⟨(by rw [hp.2]; exact (hRX2.up (Nat.le_succ k))), hB.1, hS⟩ hl
theorem lwc_2 {p : Program} {l : Launch} {e : Env} {s : State} {m : MethodId} {below : List Frame} {meth : Method} {c : Code} {b L : Nat} {xs : Nat → Int32} {dC : Nat → ClassId} {dI : Nat → Nat → Nat} {dA : Nat → ClassId} {n t_ : Nat} {ad adK adV : Nat → Nat} {fm us sb : Nat} (X : xC dC dI dA p s m c #[Value.ref b] code 4 R_law) (hN : rvN s) (Y : lwK dC dI s n b L xs t_ ad adK adV fm us sb) (k : Nat) (hk : 5 * k + 5 ≤ L) (back : lwB p l e s m below meth c b n dC dI dA k) (σ : mdT) (ab be : Int64) (H : Heap) (ls : Array Slot) (hs_ : lwS dC dI dA n k σ ab be s.heap H) (hl : lv_has ls 4 (lwL b n k)) : W p l e room_1 s m #[Value.ref b] below meth c H [] (200 + 1400 * k) (3300 + 10300 * k) (lw_Z below #[Value.ref b] s) (F0 m 250 ls []) := by
  obtain ⟨hn, hXs, hbn, hL3, hZa, hAl, hZr⟩ := Y
  obtain ⟨hRX, hMd, hS⟩ := hs_
  have hz112 := hRX.sz
  have hbl : b < s.heap.size := hn ▸ hbn
  have hbA : ¬ n ≤ b := by omega
  obtain ⟨many, rent, rd, un, hs, ev, ty, e0, e1, e5, e6, e4, e2, e15⟩ := hRX.nums
  refine lv_aload_n X.1 X.2.1 dL_law_250 rfl (lv_at hl 1 rfl) ?_
  refine lv_aload_n X.1 X.2.1 dL_law_251 rfl (lv_at hl 0 rfl) ?_
  refine lv_iload_n X.1 X.2.1 dL_law_252 rfl (lv_at hl 3 rfl) ?_
  refine lv_iconst (v := nI 1) X.1 X.2.1 dL_law_253 rfl ?_
  refine rn_iadd X.1 X.2.1 dL_law_254 ?_
  refine va_sld X.1 X.2.1 hXs hbl hbA hS (i := nI ((5 * k) + 1)) (vp_in_nI (by omega) (by omega)) dL_law_255 ?_
  refine lv_aload_n X.1 X.2.1 dL_law_256 rfl (lv_at hl 0 rfl) ?_
  refine lv_iload_n X.1 X.2.1 dL_law_257 rfl (lv_at hl 3 rfl) ?_
  refine lv_iconst (v := nI 2) X.1 X.2.1 dL_law_258 rfl ?_
  refine rn_iadd X.1 X.2.1 dL_law_259 ?_
  refine va_sld X.1 X.2.1 hXs hbl hbA hS (i := nI ((5 * k) + 2)) (vp_in_nI (by omega) (by omega)) dL_law_260 ?_
  refine lv_aload_n X.1 X.2.1 dL_law_261 rfl (lv_at hl 0 rfl) ?_
  refine lv_iload_n X.1 X.2.1 dL_law_262 rfl (lv_at hl 3 rfl) ?_
  refine lv_iconst (v := nI 3) X.1 X.2.1 dL_law_263 rfl ?_
  refine rn_iadd X.1 X.2.1 dL_law_264 ?_
  refine va_sld X.1 X.2.1 hXs hbl hbA hS (i := nI ((5 * k) + 3)) (vp_in_nI (by omega) (by omega)) dL_law_265 ?_
  refine x_cWi (x_runV X hN hRX (As := [.int (xs (nI ((5 * k) + 1)).toNatClampNeg), .int (xs (nI ((5 * k) + 2)).toNatClampNeg), .int (xs (nI ((5 * k) + 3)).toNatClampNeg)]) (rest := []) (x_X0_renter l dC dI dA n k σ ab be (xs (nI ((5 * k) + 1)).toNatClampNeg) (xs (nI ((5 * k) + 2)).toNatClampNeg) (xs (nI ((5 * k) + 3)).toNatClampNeg)) xkv__law_23 (RX.recv X.2.2.2.2.2 hRX) rfl rfl ⟨Nat.le_of_ble_eq_true rfl, Nat.le_of_ble_eq_true rfl⟩ hl.1 (Nat.le_of_ble_eq_true rfl) dL_law_266 ⟨by show _ ≤ 601024; omega, by show _ ≤ 7293034; omega⟩) hS (fun q h => h.1) (fun q h => h.1) (fun rc _ H1 locs1 erc hRX1 hz1 hk1 hS1 => ?_)
  refine W.fgtn hn hS1 ?_
  replace hS := hS1.fg
  subst erc
  have hMd := lw_keepM hMd hz112 (fun q h1 h2 h3 => by have := h3.2; omega) hk1
  clear hk1 hz112
  have hz112 := hRX1.sz
  refine lv_aload_n X.1 X.2.1 dL_law_269 rfl (lv_at hl 2 rfl) ?_
  refine lv_aload_n X.1 X.2.1 dL_law_270 rfl (lv_at hl 0 rfl) ?_
  refine lv_iload_n X.1 X.2.1 dL_law_271 rfl (lv_at hl 3 rfl) ?_
  refine lv_iconst (v := nI 1) X.1 X.2.1 dL_law_272 rfl ?_
  refine rn_iadd X.1 X.2.1 dL_law_273 ?_
  refine va_sld X.1 X.2.1 hXs hbl hbA hS (i := nI ((5 * k) + 1)) (vp_in_nI (by omega) (by omega)) dL_law_274 ?_
  refine lv_aload_n X.1 X.2.1 dL_law_275 rfl (lv_at hl 0 rfl) ?_
  refine lv_iload_n X.1 X.2.1 dL_law_276 rfl (lv_at hl 3 rfl) ?_
  refine lv_iconst (v := nI 2) X.1 X.2.1 dL_law_277 rfl ?_
  refine rn_iadd X.1 X.2.1 dL_law_278 ?_
  refine va_sld X.1 X.2.1 hXs hbl hbA hS (i := nI ((5 * k) + 2)) (vp_in_nI (by omega) (by omega)) dL_law_279 ?_
  refine lv_aload_n X.1 X.2.1 dL_law_280 rfl (lv_at hl 0 rfl) ?_
  refine lv_iload_n X.1 X.2.1 dL_law_281 rfl (lv_at hl 3 rfl) ?_
  refine lv_iconst (v := nI 3) X.1 X.2.1 dL_law_282 rfl ?_
  refine rn_iadd X.1 X.2.1 dL_law_283 ?_
  refine va_sld X.1 X.2.1 hXs hbl hbA hS (i := nI ((5 * k) + 3)) (vp_in_nI (by omega) (by omega)) dL_law_284 ?_
  refine va_calli (md_runL X hMd (As := [.int (xs (nI ((5 * k) + 1)).toNatClampNeg), .int (xs (nI ((5 * k) + 2)).toNatClampNeg), .int (xs (nI ((5 * k) + 3)).toNatClampNeg)]) (rest := [.int ((sp_renter σ (xs (nI ((5 * k) + 1)).toNatClampNeg) (xs (nI ((5 * k) + 2)).toNatClampNeg) (xs (nI ((5 * k) + 3)).toNatClampNeg)).1)]) (met_renter l dC dI dA (n + 96) σ ab be (xs (nI ((5 * k) + 1)).toNatClampNeg) (xs (nI ((5 * k) + 2)).toNatClampNeg) (xs (nI ((5 * k) + 3)).toNatClampNeg) rent e1.1 e1.2) xkv__law_27 rfl rfl rfl ⟨Nat.le_of_ble_eq_true rfl, Nat.le_of_ble_eq_true rfl⟩ hl.1 (Nat.le_of_ble_eq_true rfl) dL_law_285 ⟨by show _ ≤ 601024; omega, by show _ ≤ 7293034; omega⟩) hS (fun q _ h => by have := h.1; omega) (fun q h => by have := h.1; omega) (fun rm u t H2 locs2 et _ hp hB hz2 hk2 hS2 => ?_)
  refine W.fgtn hn hS2 ?_
  replace hS := hS2.fg
  subst et
  refine lv_icmp_eq (tgt := 1168) X.1 X.2.1 dL_law_288 (by decide) (fun _ => ?_) (fun hne => absurd (hp.1.symm) hne)
  refine W.pad (cells2 := 200 + 1400 * (k + 1)) (slots2 := 3300 + 10300 * (k + 1)) (by omega) (by omega) ?_
  have hRX2 := hRX1.kept hz2 hk2
  exact back u ab be _ ls ⟨(by rw [hp.2]; exact (hRX2.up (Nat.le_succ k))), hB.1, hS⟩ hl
theorem lwc_3 {p : Program} {l : Launch} {e : Env} {s : State} {m : MethodId} {below : List Frame} {meth : Method} {c : Code} {b L : Nat} {xs : Nat → Int32} {dC : Nat → ClassId} {dI : Nat → Nat → Nat} {dA : Nat → ClassId} {n t_ : Nat} {ad adK adV : Nat → Nat} {fm us sb : Nat} (X : xC dC dI dA p s m c #[Value.ref b] code 4 R_law) (hN : rvN s) (Y : lwK dC dI s n b L xs t_ ad adK adV fm us sb) (k : Nat) (hk : 5 * k + 5 ≤ L) (back : lwB p l e s m below meth c b n dC dI dA k) (σ : mdT) (ab be : Int64) (H : Heap) (ls : Array Slot) (hs_ : lwS dC dI dA n k σ ab be s.heap H) (hl : lv_has ls 4 (lwL b n k)) : W p l e room_1 s m #[Value.ref b] below meth c H [] (200 + 1400 * k) (3300 + 10300 * k) (lw_Z below #[Value.ref b] s) (F0 m 293 ls []) := by
  obtain ⟨hn, hXs, hbn, hL3, hZa, hAl, hZr⟩ := Y
  obtain ⟨hRX, hMd, hS⟩ := hs_
  have hz112 := hRX.sz
  have hbl : b < s.heap.size := hn ▸ hbn
  have hbA : ¬ n ≤ b := by omega
  obtain ⟨many, rent, rd, un, hs, ev, ty, e0, e1, e5, e6, e4, e2, e15⟩ := hRX.nums
  refine lv_aload_n X.1 X.2.1 dL_law_293 rfl (lv_at hl 1 rfl) ?_
  refine lv_aload_n X.1 X.2.1 dL_law_294 rfl (lv_at hl 0 rfl) ?_
  refine lv_iload_n X.1 X.2.1 dL_law_295 rfl (lv_at hl 3 rfl) ?_
  refine lv_iconst (v := nI 1) X.1 X.2.1 dL_law_296 rfl ?_
  refine rn_iadd X.1 X.2.1 dL_law_297 ?_
  refine va_sld X.1 X.2.1 hXs hbl hbA hS (i := nI ((5 * k) + 1)) (vp_in_nI (by omega) (by omega)) dL_law_298 ?_
  refine lv_aload_n X.1 X.2.1 dL_law_299 rfl (lv_at hl 0 rfl) ?_
  refine lv_iload_n X.1 X.2.1 dL_law_300 rfl (lv_at hl 3 rfl) ?_
  refine lv_iconst (v := nI 2) X.1 X.2.1 dL_law_301 rfl ?_
  refine rn_iadd X.1 X.2.1 dL_law_302 ?_
  refine va_sld X.1 X.2.1 hXs hbl hbA hS (i := nI ((5 * k) + 2)) (vp_in_nI (by omega) (by omega)) dL_law_303 ?_
  refine x_cWi (x_runV X hN hRX (As := [.int (xs (nI ((5 * k) + 1)).toNatClampNeg), .int (xs (nI ((5 * k) + 2)).toNatClampNeg)]) (rest := []) (x_X0_things l dC dI dA n k σ ab be (xs (nI ((5 * k) + 1)).toNatClampNeg) (xs (nI ((5 * k) + 2)).toNatClampNeg)) xkv__law_28 (RX.recv X.2.2.2.2.2 hRX) rfl rfl ⟨Nat.le_of_ble_eq_true rfl, Nat.le_of_ble_eq_true rfl⟩ hl.1 (Nat.le_of_ble_eq_true rfl) dL_law_304 ⟨by show _ ≤ 601024; omega, by show _ ≤ 7293034; omega⟩) hS (fun q h => h.1) (fun q h => h.1) (fun rc _ H1 locs1 erc hRX1 hz1 hk1 hS1 => ?_)
  refine W.fgtn hn hS1 ?_
  replace hS := hS1.fg
  subst erc
  have hMd := lw_keepM hMd hz112 (fun q h1 h2 h3 => by have := h3.2; omega) hk1
  clear hk1 hz112
  have hz112 := hRX1.sz
  refine lv_aload_n X.1 X.2.1 dL_law_307 rfl (lv_at hl 2 rfl) ?_
  refine lv_aload_n X.1 X.2.1 dL_law_308 rfl (lv_at hl 0 rfl) ?_
  refine lv_iload_n X.1 X.2.1 dL_law_309 rfl (lv_at hl 3 rfl) ?_
  refine lv_iconst (v := nI 1) X.1 X.2.1 dL_law_310 rfl ?_
  refine rn_iadd X.1 X.2.1 dL_law_311 ?_
  refine va_sld X.1 X.2.1 hXs hbl hbA hS (i := nI ((5 * k) + 1)) (vp_in_nI (by omega) (by omega)) dL_law_312 ?_
  refine lv_aload_n X.1 X.2.1 dL_law_313 rfl (lv_at hl 0 rfl) ?_
  refine lv_iload_n X.1 X.2.1 dL_law_314 rfl (lv_at hl 3 rfl) ?_
  refine lv_iconst (v := nI 2) X.1 X.2.1 dL_law_315 rfl ?_
  refine rn_iadd X.1 X.2.1 dL_law_316 ?_
  refine va_sld X.1 X.2.1 hXs hbl hbA hS (i := nI ((5 * k) + 2)) (vp_in_nI (by omega) (by omega)) dL_law_317 ?_
  refine va_calli (md_runL X hMd (As := [.int (xs (nI ((5 * k) + 1)).toNatClampNeg), .int (xs (nI ((5 * k) + 2)).toNatClampNeg)]) (rest := [.int ((sp_things σ (xs (nI ((5 * k) + 1)).toNatClampNeg) (xs (nI ((5 * k) + 2)).toNatClampNeg)).1)]) (met_things l dC dI dA (n + 96) σ ab be (xs (nI ((5 * k) + 1)).toNatClampNeg) (xs (nI ((5 * k) + 2)).toNatClampNeg) many e0.1 e0.2) xkv__law_32 rfl rfl rfl ⟨Nat.le_of_ble_eq_true rfl, Nat.le_of_ble_eq_true rfl⟩ hl.1 (Nat.le_of_ble_eq_true rfl) dL_law_318 ⟨by show _ ≤ 601024; omega, by show _ ≤ 7293034; omega⟩) hS (fun q _ h => by have := h.1; omega) (fun q h => by have := h.1; omega) (fun rm u t H2 locs2 et _ hp hB hz2 hk2 hS2 => ?_)
  refine W.fgtn hn hS2 ?_
  replace hS := hS2.fg
  subst et
  refine lv_icmp_eq (tgt := 1168) X.1 X.2.1 dL_law_321 (by decide) (fun _ => ?_) (fun hne => absurd (hp.1.symm) hne)
  refine W.pad (cells2 := 200 + 1400 * (k + 1)) (slots2 := 3300 + 10300 * (k + 1)) (by omega) (by omega) ?_
  have hRX2 := hRX1.kept hz2 hk2
  exact back u ab be _ ls ⟨(by rw [hp.2]; exact (hRX2.up (Nat.le_succ k))), hB.1, hS⟩ hl
theorem lwc_4 {p : Program} {l : Launch} {e : Env} {s : State} {m : MethodId} {below : List Frame} {meth : Method} {c : Code} {b L : Nat} {xs : Nat → Int32} {dC : Nat → ClassId} {dI : Nat → Nat → Nat} {dA : Nat → ClassId} {n t_ : Nat} {ad adK adV : Nat → Nat} {fm us sb : Nat} (X : xC dC dI dA p s m c #[Value.ref b] code 4 R_law) (hN : rvN s) (Y : lwK dC dI s n b L xs t_ ad adK adV fm us sb) (k : Nat) (hk : 5 * k + 5 ≤ L) (back : lwB p l e s m below meth c b n dC dI dA k) (σ : mdT) (ab be : Int64) (H : Heap) (ls : Array Slot) (hs_ : lwS dC dI dA n k σ ab be s.heap H) (hl : lv_has ls 4 (lwL b n k)) : W p l e room_1 s m #[Value.ref b] below meth c H [] (200 + 1400 * k) (3300 + 10300 * k) (lw_Z below #[Value.ref b] s) (F0 m 326 ls []) := by
  obtain ⟨hn, hXs, hbn, hL3, hZa, hAl, hZr⟩ := Y
  obtain ⟨hRX, hMd, hS⟩ := hs_
  have hz112 := hRX.sz
  have hbl : b < s.heap.size := hn ▸ hbn
  have hbA : ¬ n ≤ b := by omega
  obtain ⟨many, rent, rd, un, hs, ev, ty, e0, e1, e5, e6, e4, e2, e15⟩ := hRX.nums
  refine lv_aload_n X.1 X.2.1 dL_law_326 rfl (lv_at hl 1 rfl) ?_
  refine lv_aload_n X.1 X.2.1 dL_law_327 rfl (lv_at hl 0 rfl) ?_
  refine lv_iload_n X.1 X.2.1 dL_law_328 rfl (lv_at hl 3 rfl) ?_
  refine lv_iconst (v := nI 1) X.1 X.2.1 dL_law_329 rfl ?_
  refine rn_iadd X.1 X.2.1 dL_law_330 ?_
  refine va_sld X.1 X.2.1 hXs hbl hbA hS (i := nI ((5 * k) + 1)) (vp_in_nI (by omega) (by omega)) dL_law_331 ?_
  refine x_cWi (x_runV X hN hRX (As := [.int (xs (nI ((5 * k) + 1)).toNatClampNeg)]) (rest := []) (x_X0_type l dC dI dA n k σ ab be (xs (nI ((5 * k) + 1)).toNatClampNeg)) xkv__law_33 (RX.recv X.2.2.2.2.2 hRX) rfl rfl ⟨Nat.le_of_ble_eq_true rfl, Nat.le_of_ble_eq_true rfl⟩ hl.1 (Nat.le_of_ble_eq_true rfl) dL_law_332 ⟨by show _ ≤ 601024; omega, by show _ ≤ 7293034; omega⟩) hS (fun q h => h.1) (fun q h => h.1) (fun rc _ H1 locs1 erc hRX1 hz1 hk1 hS1 => ?_)
  refine W.fgtn hn hS1 ?_
  replace hS := hS1.fg
  subst erc
  have hMd := lw_keepM hMd hz112 (fun q h1 h2 h3 => by have := h3.2; omega) hk1
  clear hk1 hz112
  have hz112 := hRX1.sz
  refine lv_aload_n X.1 X.2.1 dL_law_335 rfl (lv_at hl 2 rfl) ?_
  refine lv_aload_n X.1 X.2.1 dL_law_336 rfl (lv_at hl 0 rfl) ?_
  refine lv_iload_n X.1 X.2.1 dL_law_337 rfl (lv_at hl 3 rfl) ?_
  refine lv_iconst (v := nI 1) X.1 X.2.1 dL_law_338 rfl ?_
  refine rn_iadd X.1 X.2.1 dL_law_339 ?_
  refine va_sld X.1 X.2.1 hXs hbl hbA hS (i := nI ((5 * k) + 1)) (vp_in_nI (by omega) (by omega)) dL_law_340 ?_
  refine va_calli (md_runL X hMd (As := [.int (xs (nI ((5 * k) + 1)).toNatClampNeg)]) (rest := [.int ((sp_type σ (xs (nI ((5 * k) + 1)).toNatClampNeg)).1)]) (met_type l dC dI dA (n + 96) σ ab be (xs (nI ((5 * k) + 1)).toNatClampNeg) ty e15.1 e15.2) xkv__law_37 rfl rfl rfl ⟨Nat.le_of_ble_eq_true rfl, Nat.le_of_ble_eq_true rfl⟩ hl.1 (Nat.le_of_ble_eq_true rfl) dL_law_341 ⟨by show _ ≤ 601024; omega, by show _ ≤ 7293034; omega⟩) hS (fun q _ h => by have := h.1; omega) (fun q h => by have := h.1; omega) (fun rm u t H2 locs2 et _ hp hB hz2 hk2 hS2 => ?_)
  refine W.fgtn hn hS2 ?_
  replace hS := hS2.fg
  subst et
  refine lv_icmp_eq (tgt := 1168) X.1 X.2.1 dL_law_344 (by decide) (fun _ => ?_) (fun hne => absurd (hp.1.symm) hne)
  refine W.pad (cells2 := 200 + 1400 * (k + 1)) (slots2 := 3300 + 10300 * (k + 1)) (by omega) (by omega) ?_
  have hRX2 := hRX1.kept hz2 hk2
  exact back u ab be _ ls ⟨(by rw [hp.2]; exact (hRX2.up (Nat.le_succ k))), hB.1, hS⟩ hl
theorem lwc_5 {p : Program} {l : Launch} {e : Env} {s : State} {m : MethodId} {below : List Frame} {meth : Method} {c : Code} {b L : Nat} {xs : Nat → Int32} {dC : Nat → ClassId} {dI : Nat → Nat → Nat} {dA : Nat → ClassId} {n t_ : Nat} {ad adK adV : Nat → Nat} {fm us sb : Nat} (X : xC dC dI dA p s m c #[Value.ref b] code 4 R_law) (hN : rvN s) (Y : lwK dC dI s n b L xs t_ ad adK adV fm us sb) (k : Nat) (hk : 5 * k + 5 ≤ L) (back : lwB p l e s m below meth c b n dC dI dA k) (σ : mdT) (ab be : Int64) (H : Heap) (ls : Array Slot) (hs_ : lwS dC dI dA n k σ ab be s.heap H) (hl : lv_has ls 4 (lwL b n k)) : W p l e room_1 s m #[Value.ref b] below meth c H [] (200 + 1400 * k) (3300 + 10300 * k) (lw_Z below #[Value.ref b] s) (F0 m 349 ls []) := by
  obtain ⟨hn, hXs, hbn, hL3, hZa, hAl, hZr⟩ := Y
  obtain ⟨hRX, hMd, hS⟩ := hs_
  have hz112 := hRX.sz
  have hbl : b < s.heap.size := hn ▸ hbn
  have hbA : ¬ n ≤ b := by omega
  obtain ⟨many, rent, rd, un, hs, ev, ty, e0, e1, e5, e6, e4, e2, e15⟩ := hRX.nums
  refine lv_aload_n X.1 X.2.1 dL_law_349 rfl (lv_at hl 1 rfl) ?_
  refine x_cWi (x_runV X hN hRX (As := []) (rest := []) (x_X0_clear l dC dI dA n k σ ab be) xkv__law_38 (RX.recv X.2.2.2.2.2 hRX) rfl rfl ⟨Nat.le_of_ble_eq_true rfl, Nat.le_of_ble_eq_true rfl⟩ hl.1 (Nat.le_of_ble_eq_true rfl) dL_law_350 ⟨by show _ ≤ 601024; omega, by show _ ≤ 7293034; omega⟩) hS (fun q h => h.1) (fun q h => h.1) (fun rc _ H1 locs1 erc hRX1 hz1 hk1 hS1 => ?_)
  refine W.fgtn hn hS1 ?_
  replace hS := hS1.fg
  subst erc
  have hMd := lw_keepM hMd hz112 (fun q h1 h2 h3 => by have := h3.2; omega) hk1
  clear hk1 hz112
  have hz112 := hRX1.sz
  refine lv_aload_n X.1 X.2.1 dL_law_353 rfl (lv_at hl 2 rfl) ?_
  refine va_calli (md_runL X hMd (As := []) (rest := [.int ((sp_clear σ).1)]) (met_clear l dC dI dA (n + 96) σ ab be) xkv__law_41 rfl rfl rfl ⟨Nat.le_of_ble_eq_true rfl, Nat.le_of_ble_eq_true rfl⟩ hl.1 (Nat.le_of_ble_eq_true rfl) dL_law_354 ⟨by show _ ≤ 601024; omega, by show _ ≤ 7293034; omega⟩) hS (fun q _ h => by have := h.1; omega) (fun q h => by have := h.1; omega) (fun rm u t H2 locs2 et _ hp hB hz2 hk2 hS2 => ?_)
  refine W.fgtn hn hS2 ?_
  replace hS := hS2.fg
  subst et
  refine lv_icmp_eq (tgt := 1168) X.1 X.2.1 dL_law_357 (by decide) (fun _ => ?_) (fun hne => absurd (hp.1.symm) hne)
  refine W.pad (cells2 := 200 + 1400 * (k + 1)) (slots2 := 3300 + 10300 * (k + 1)) (by omega) (by omega) ?_
  have hRX2 := hRX1.kept hz2 hk2
  exact back u ab be _ ls ⟨(by rw [hp.2]; exact (hRX2.up (Nat.le_succ k))), hB.1, hS⟩ hl
theorem lwc_6 {p : Program} {l : Launch} {e : Env} {s : State} {m : MethodId} {below : List Frame} {meth : Method} {c : Code} {b L : Nat} {xs : Nat → Int32} {dC : Nat → ClassId} {dI : Nat → Nat → Nat} {dA : Nat → ClassId} {n t_ : Nat} {ad adK adV : Nat → Nat} {fm us sb : Nat} (X : xC dC dI dA p s m c #[Value.ref b] code 4 R_law) (hN : rvN s) (Y : lwK dC dI s n b L xs t_ ad adK adV fm us sb) (k : Nat) (hk : 5 * k + 5 ≤ L) (back : lwB p l e s m below meth c b n dC dI dA k) (σ : mdT) (ab be : Int64) (H : Heap) (ls : Array Slot) (hs_ : lwS dC dI dA n k σ ab be s.heap H) (hl : lv_has ls 4 (lwL b n k)) : W p l e room_1 s m #[Value.ref b] below meth c H [] (200 + 1400 * k) (3300 + 10300 * k) (lw_Z below #[Value.ref b] s) (F0 m 362 ls []) := by
  obtain ⟨hn, hXs, hbn, hL3, hZa, hAl, hZr⟩ := Y
  obtain ⟨hRX, hMd, hS⟩ := hs_
  have hz112 := hRX.sz
  have hbl : b < s.heap.size := hn ▸ hbn
  have hbA : ¬ n ≤ b := by omega
  obtain ⟨many, rent, rd, un, hs, ev, ty, e0, e1, e5, e6, e4, e2, e15⟩ := hRX.nums
  refine lv_aload_n X.1 X.2.1 dL_law_362 rfl (lv_at hl 1 rfl) ?_
  refine x_cWi (x_runVWw (xZr_w n adK adV fm us sb) X hN ⟨hRX, rfl⟩ (hZr.kept hS.2.1) (As := []) (rest := []) (x_X0_read l dC dI dA n k σ ab be adK adV fm us sb H.size) xkw_read (RX.recv X.2.2.2.2.2 hRX) rfl rfl ⟨Nat.le_of_ble_eq_true rfl, Nat.le_of_ble_eq_true rfl⟩ hl.1 (Nat.le_of_ble_eq_true rfl) dL_law_363 ⟨by show _ ≤ 601024; omega, by show _ ≤ 7293034; omega⟩) hS (fun q h => h.elim (fun h => h.1) (fun h => by have := hS.1; omega)) (fun q h => h.elim (fun h => h.1) (fun h => by have := hS.1; omega)) (fun rc _ H1 locs1 erc hRX1 hz1 hk1 hS1 => ?_)
  refine W.fgtn hn hS1 ?_
  replace hS := hS1.fg
  subst erc
  have hMd := lw_keepM hMd hz112 (fun q h1 h2 h3 => h3.elim (fun h3 => by have := h3.2; omega) (fun h3 => by omega)) hk1
  clear hk1 hz112
  have hz112 := hRX1.sz
  refine lv_aload_n X.1 X.2.1 dL_law_366 rfl (lv_at hl 2 rfl) ?_
  refine va_calli (md_runL X hMd (As := []) (rest := [.int ((sp_read σ).1)]) (met_read l dC dI dA (n + 96) σ ab be ty e15.1 e15.2) xkv__law_45 rfl rfl rfl ⟨Nat.le_of_ble_eq_true rfl, Nat.le_of_ble_eq_true rfl⟩ hl.1 (Nat.le_of_ble_eq_true rfl) dL_law_367 ⟨by show _ ≤ 601024; omega, by show _ ≤ 7293034; omega⟩) hS (fun q _ h => by have := h.1; omega) (fun q h => by have := h.1; omega) (fun rm u t H2 locs2 et _ hp hB hz2 hk2 hS2 => ?_)
  refine W.fgtn hn hS2 ?_
  replace hS := hS2.fg
  subst et
  refine lv_icmp_eq (tgt := 1168) X.1 X.2.1 dL_law_370 (by decide) (fun _ => ?_) (fun hne => absurd (hp.1.symm) hne)
  refine W.pad (cells2 := 200 + 1400 * (k + 1)) (slots2 := 3300 + 10300 * (k + 1)) (by omega) (by omega) ?_
  have hRX2 := hRX1.kept hz2 hk2
  exact back u ab be _ ls ⟨((hRX2.up (Nat.le_succ k)).q hp.2), hB.1, hS⟩ hl
theorem lwc_7 {p : Program} {l : Launch} {e : Env} {s : State} {m : MethodId} {below : List Frame} {meth : Method} {c : Code} {b L : Nat} {xs : Nat → Int32} {dC : Nat → ClassId} {dI : Nat → Nat → Nat} {dA : Nat → ClassId} {n t_ : Nat} {ad adK adV : Nat → Nat} {fm us sb : Nat} (X : xC dC dI dA p s m c #[Value.ref b] code 4 R_law) (hN : rvN s) (Y : lwK dC dI s n b L xs t_ ad adK adV fm us sb) (k : Nat) (hk : 5 * k + 5 ≤ L) (back : lwB p l e s m below meth c b n dC dI dA k) (σ : mdT) (ab be : Int64) (H : Heap) (ls : Array Slot) (hs_ : lwS dC dI dA n k σ ab be s.heap H) (hl : lv_has ls 4 (lwL b n k)) : W p l e room_1 s m #[Value.ref b] below meth c H [] (200 + 1400 * k) (3300 + 10300 * k) (lw_Z below #[Value.ref b] s) (F0 m 375 ls []) := by
  obtain ⟨hn, hXs, hbn, hL3, hZa, hAl, hZr⟩ := Y
  obtain ⟨hRX, hMd, hS⟩ := hs_
  have hz112 := hRX.sz
  have hbl : b < s.heap.size := hn ▸ hbn
  have hbA : ¬ n ≤ b := by omega
  obtain ⟨many, rent, rd, un, hs, ev, ty, e0, e1, e5, e6, e4, e2, e15⟩ := hRX.nums
  refine lv_aload_n X.1 X.2.1 dL_law_375 rfl (lv_at hl 1 rfl) ?_
  refine lv_aload_n X.1 X.2.1 dL_law_376 rfl (lv_at hl 0 rfl) ?_
  refine lv_iload_n X.1 X.2.1 dL_law_377 rfl (lv_at hl 3 rfl) ?_
  refine lv_iconst (v := nI 1) X.1 X.2.1 dL_law_378 rfl ?_
  refine rn_iadd X.1 X.2.1 dL_law_379 ?_
  refine va_sld X.1 X.2.1 hXs hbl hbA hS (i := nI ((5 * k) + 1)) (vp_in_nI (by omega) (by omega)) dL_law_380 ?_
  refine lv_aload_n X.1 X.2.1 dL_law_381 rfl (lv_at hl 0 rfl) ?_
  refine lv_iload_n X.1 X.2.1 dL_law_382 rfl (lv_at hl 3 rfl) ?_
  refine lv_iconst (v := nI 2) X.1 X.2.1 dL_law_383 rfl ?_
  refine rn_iadd X.1 X.2.1 dL_law_384 ?_
  refine va_sld X.1 X.2.1 hXs hbl hbA hS (i := nI ((5 * k) + 2)) (vp_in_nI (by omega) (by omega)) dL_law_385 ?_
  refine x_cWi (x_runV X hN hRX (As := [.int (xs (nI ((5 * k) + 1)).toNatClampNeg), .int (xs (nI ((5 * k) + 2)).toNatClampNeg)]) (rest := []) (x_X0_let l dC dI dA n k σ ab be (xs (nI ((5 * k) + 1)).toNatClampNeg) (xs (nI ((5 * k) + 2)).toNatClampNeg) (by omega)) xkv__law_46 (RX.recv X.2.2.2.2.2 hRX) rfl rfl ⟨Nat.le_of_ble_eq_true rfl, Nat.le_of_ble_eq_true rfl⟩ hl.1 (Nat.le_of_ble_eq_true rfl) dL_law_386 ⟨by show _ ≤ 601024; omega, by show _ ≤ 7293034; omega⟩) hS (fun q h => h.1) (fun q h => h.1) (fun rc _ H1 locs1 erc hRX1 hz1 hk1 hS1 => ?_)
  refine W.fgtn hn hS1 ?_
  replace hS := hS1.fg
  subst erc
  have hMd := lw_keepM hMd hz112 (fun q h1 h2 h3 => by have := h3.2; omega) hk1
  clear hk1 hz112
  have hz112 := hRX1.sz
  refine lv_aload_n X.1 X.2.1 dL_law_389 rfl (lv_at hl 2 rfl) ?_
  refine lv_aload_n X.1 X.2.1 dL_law_390 rfl (lv_at hl 0 rfl) ?_
  refine lv_iload_n X.1 X.2.1 dL_law_391 rfl (lv_at hl 3 rfl) ?_
  refine lv_iconst (v := nI 1) X.1 X.2.1 dL_law_392 rfl ?_
  refine rn_iadd X.1 X.2.1 dL_law_393 ?_
  refine va_sld X.1 X.2.1 hXs hbl hbA hS (i := nI ((5 * k) + 1)) (vp_in_nI (by omega) (by omega)) dL_law_394 ?_
  refine lv_aload_n X.1 X.2.1 dL_law_395 rfl (lv_at hl 0 rfl) ?_
  refine lv_iload_n X.1 X.2.1 dL_law_396 rfl (lv_at hl 3 rfl) ?_
  refine lv_iconst (v := nI 2) X.1 X.2.1 dL_law_397 rfl ?_
  refine rn_iadd X.1 X.2.1 dL_law_398 ?_
  refine va_sld X.1 X.2.1 hXs hbl hbA hS (i := nI ((5 * k) + 2)) (vp_in_nI (by omega) (by omega)) dL_law_399 ?_
  refine va_calli (md_runL X hMd (As := [.int (xs (nI ((5 * k) + 1)).toNatClampNeg), .int (xs (nI ((5 * k) + 2)).toNatClampNeg)]) (rest := [.int ((sp_let σ (xs (nI ((5 * k) + 1)).toNatClampNeg) (xs (nI ((5 * k) + 2)).toNatClampNeg)).1)]) (met_let l dC dI dA (n + 96) σ ab be (xs (nI ((5 * k) + 1)).toNatClampNeg) (xs (nI ((5 * k) + 2)).toNatClampNeg) many e0.1 e0.2 rent e1.1 e1.2 un e6.1 e6.2 hs e4.1 e4.2) xkv__law_49 rfl rfl rfl ⟨Nat.le_of_ble_eq_true rfl, Nat.le_of_ble_eq_true rfl⟩ hl.1 (Nat.le_of_ble_eq_true rfl) dL_law_400 ⟨by show _ ≤ 601024; omega, by show _ ≤ 7293034; omega⟩) hS (fun q _ h => by have := h.1; omega) (fun q h => by have := h.1; omega) (fun rm u t H2 locs2 et _ hp hB hz2 hk2 hS2 => ?_)
  refine W.fgtn hn hS2 ?_
  replace hS := hS2.fg
  subst et
  refine lv_icmp_eq (tgt := 1168) X.1 X.2.1 dL_law_403 (by decide) (fun _ => ?_) (fun hne => absurd (hp.1.symm) hne)
  refine W.pad (cells2 := 200 + 1400 * (k + 1)) (slots2 := 3300 + 10300 * (k + 1)) (by omega) (by omega) ?_
  have hRX2 := hRX1.kept hz2 hk2
  exact back u ab be _ ls ⟨((hRX2.up (Nat.le_succ k)).q hp.2), hB.1, hS⟩ hl
theorem lwc_8 {p : Program} {l : Launch} {e : Env} {s : State} {m : MethodId} {below : List Frame} {meth : Method} {c : Code} {b L : Nat} {xs : Nat → Int32} {dC : Nat → ClassId} {dI : Nat → Nat → Nat} {dA : Nat → ClassId} {n t_ : Nat} {ad adK adV : Nat → Nat} {fm us sb : Nat} (X : xC dC dI dA p s m c #[Value.ref b] code 4 R_law) (hN : rvN s) (Y : lwK dC dI s n b L xs t_ ad adK adV fm us sb) (k : Nat) (hk : 5 * k + 5 ≤ L) (back : lwB p l e s m below meth c b n dC dI dA k) (σ : mdT) (ab be : Int64) (H : Heap) (ls : Array Slot) (hs_ : lwS dC dI dA n k σ ab be s.heap H) (hl : lv_has ls 4 (lwL b n k)) : W p l e room_1 s m #[Value.ref b] below meth c H [] (200 + 1400 * k) (3300 + 10300 * k) (lw_Z below #[Value.ref b] s) (F0 m 408 ls []) := by
  obtain ⟨hn, hXs, hbn, hL3, hZa, hAl, hZr⟩ := Y
  obtain ⟨hRX, hMd, hS⟩ := hs_
  have hz112 := hRX.sz
  have hbl : b < s.heap.size := hn ▸ hbn
  have hbA : ¬ n ≤ b := by omega
  obtain ⟨many, rent, rd, un, hs, ev, ty, e0, e1, e5, e6, e4, e2, e15⟩ := hRX.nums
  refine lv_aload_n X.1 X.2.1 dL_law_408 rfl (lv_at hl 1 rfl) ?_
  refine x_cWi (x_runV X hN hRX (As := []) (rest := []) (x_X0_night l dC dI dA n k σ ab be) xkv__law_50 (RX.recv X.2.2.2.2.2 hRX) rfl rfl ⟨Nat.le_of_ble_eq_true rfl, Nat.le_of_ble_eq_true rfl⟩ hl.1 (Nat.le_of_ble_eq_true rfl) dL_law_409 ⟨by show _ ≤ 601024; omega, by show _ ≤ 7293034; omega⟩) hS (fun q h => h.1) (fun q h => h.1) (fun rc _ H1 locs1 erc hRX1 hz1 hk1 hS1 => ?_)
  refine W.fgtn hn hS1 ?_
  replace hS := hS1.fg
  subst erc
  have hMd := lw_keepM hMd hz112 (fun q h1 h2 h3 => by have := h3.2; omega) hk1
  clear hk1 hz112
  have hz112 := hRX1.sz
  refine lv_aload_n X.1 X.2.1 dL_law_412 rfl (lv_at hl 2 rfl) ?_
  refine va_calli (md_runL X hMd (As := []) (rest := [.int ((sp_night σ).1)]) (met_night l dC dI dA (n + 96) σ ab be many e0.1 e0.2 un e6.1 e6.2) xkv__law_53 rfl rfl rfl ⟨Nat.le_of_ble_eq_true rfl, Nat.le_of_ble_eq_true rfl⟩ hl.1 (Nat.le_of_ble_eq_true rfl) dL_law_413 ⟨by show _ ≤ 601024; omega, by show _ ≤ 7293034; omega⟩) hS (fun q _ h => by have := h.1; omega) (fun q h => by have := h.1; omega) (fun rm u t H2 locs2 et _ hp hB hz2 hk2 hS2 => ?_)
  refine W.fgtn hn hS2 ?_
  replace hS := hS2.fg
  subst et
  refine lv_icmp_eq (tgt := 1168) X.1 X.2.1 dL_law_416 (by decide) (fun _ => ?_) (fun hne => absurd (hp.1.symm) hne)
  refine W.pad (cells2 := 200 + 1400 * (k + 1)) (slots2 := 3300 + 10300 * (k + 1)) (by omega) (by omega) ?_
  have hRX2 := hRX1.kept hz2 hk2
  exact back u ab be _ ls ⟨(by rw [hp.2]; exact hRX2), hB.1, hS⟩ hl
theorem lwc_9 {p : Program} {l : Launch} {e : Env} {s : State} {m : MethodId} {below : List Frame} {meth : Method} {c : Code} {b L : Nat} {xs : Nat → Int32} {dC : Nat → ClassId} {dI : Nat → Nat → Nat} {dA : Nat → ClassId} {n t_ : Nat} {ad adK adV : Nat → Nat} {fm us sb : Nat} (X : xC dC dI dA p s m c #[Value.ref b] code 4 R_law) (hN : rvN s) (Y : lwK dC dI s n b L xs t_ ad adK adV fm us sb) (k : Nat) (hk : 5 * k + 5 ≤ L) (back : lwB p l e s m below meth c b n dC dI dA k) (σ : mdT) (ab be : Int64) (H : Heap) (ls : Array Slot) (hs_ : lwS dC dI dA n k σ ab be s.heap H) (hl : lv_has ls 4 (lwL b n k)) : W p l e room_1 s m #[Value.ref b] below meth c H [] (200 + 1400 * k) (3300 + 10300 * k) (lw_Z below #[Value.ref b] s) (F0 m 421 ls []) := by
  obtain ⟨hn, hXs, hbn, hL3, hZa, hAl, hZr⟩ := Y
  obtain ⟨hRX, hMd, hS⟩ := hs_
  have hz112 := hRX.sz
  have hbl : b < s.heap.size := hn ▸ hbn
  have hbA : ¬ n ≤ b := by omega
  obtain ⟨many, rent, rd, un, hs, ev, ty, e0, e1, e5, e6, e4, e2, e15⟩ := hRX.nums
  refine lv_aload_n X.1 X.2.1 dL_law_421 rfl (lv_at hl 1 rfl) ?_
  refine x_cWi (x_runV X hN hRX (As := []) (rest := []) (x_X0_undo l dC dI dA n k σ ab be) xkv__law_54 (RX.recv X.2.2.2.2.2 hRX) rfl rfl ⟨Nat.le_of_ble_eq_true rfl, Nat.le_of_ble_eq_true rfl⟩ hl.1 (Nat.le_of_ble_eq_true rfl) dL_law_422 ⟨by show _ ≤ 601024; omega, by show _ ≤ 7293034; omega⟩) hS (fun q h => h.1) (fun q h => h.1) (fun rc _ H1 locs1 erc hRX1 hz1 hk1 hS1 => ?_)
  refine W.fgtn hn hS1 ?_
  replace hS := hS1.fg
  subst erc
  have hMd := lw_keepM hMd hz112 (fun q h1 h2 h3 => by have := h3.2; omega) hk1
  clear hk1 hz112
  have hz112 := hRX1.sz
  refine lv_aload_n X.1 X.2.1 dL_law_425 rfl (lv_at hl 2 rfl) ?_
  refine va_calli (md_runL X hMd (As := []) (rest := [.int ((sp_undo σ).1)]) (met_undo l dC dI dA (n + 96) σ ab be un e6.1 e6.2) xkv__law_57 rfl rfl rfl ⟨Nat.le_of_ble_eq_true rfl, Nat.le_of_ble_eq_true rfl⟩ hl.1 (Nat.le_of_ble_eq_true rfl) dL_law_426 ⟨by show _ ≤ 601024; omega, by show _ ≤ 7293034; omega⟩) hS (fun q _ h => by have := h.1; omega) (fun q h => by have := h.1; omega) (fun rm u t H2 locs2 et _ hp hB hz2 hk2 hS2 => ?_)
  refine W.fgtn hn hS2 ?_
  replace hS := hS2.fg
  subst et
  refine lv_icmp_eq (tgt := 1168) X.1 X.2.1 dL_law_429 (by decide) (fun _ => ?_) (fun hne => absurd (hp.1.symm) hne)
  refine W.pad (cells2 := 200 + 1400 * (k + 1)) (slots2 := 3300 + 10300 * (k + 1)) (by omega) (by omega) ?_
  have hRX2 := hRX1.kept hz2 hk2
  exact back u ab be _ ls ⟨(by rw [hp.2]; exact (hRX2.up (Nat.le_succ k))), hB.1, hS⟩ hl
theorem lwc_10 {p : Program} {l : Launch} {e : Env} {s : State} {m : MethodId} {below : List Frame} {meth : Method} {c : Code} {b L : Nat} {xs : Nat → Int32} {dC : Nat → ClassId} {dI : Nat → Nat → Nat} {dA : Nat → ClassId} {n t_ : Nat} {ad adK adV : Nat → Nat} {fm us sb : Nat} (X : xC dC dI dA p s m c #[Value.ref b] code 4 R_law) (hN : rvN s) (Y : lwK dC dI s n b L xs t_ ad adK adV fm us sb) (k : Nat) (hk : 5 * k + 5 ≤ L) (back : lwB p l e s m below meth c b n dC dI dA k) (σ : mdT) (ab be : Int64) (H : Heap) (ls : Array Slot) (hs_ : lwS dC dI dA n k σ ab be s.heap H) (hl : lv_has ls 4 (lwL b n k)) : W p l e room_1 s m #[Value.ref b] below meth c H [] (200 + 1400 * k) (3300 + 10300 * k) (lw_Z below #[Value.ref b] s) (F0 m 434 ls []) := by
  obtain ⟨hn, hXs, hbn, hL3, hZa, hAl, hZr⟩ := Y
  obtain ⟨hRX, hMd, hS⟩ := hs_
  have hz112 := hRX.sz
  have hbl : b < s.heap.size := hn ▸ hbn
  have hbA : ¬ n ≤ b := by omega
  obtain ⟨many, rent, rd, un, hs, ev, ty, e0, e1, e5, e6, e4, e2, e15⟩ := hRX.nums
  refine lv_aload_n X.1 X.2.1 dL_law_434 rfl (lv_at hl 1 rfl) ?_
  refine lv_aload_n X.1 X.2.1 dL_law_435 rfl (lv_at hl 0 rfl) ?_
  refine lv_iload_n X.1 X.2.1 dL_law_436 rfl (lv_at hl 3 rfl) ?_
  refine lv_iconst (v := nI 1) X.1 X.2.1 dL_law_437 rfl ?_
  refine rn_iadd X.1 X.2.1 dL_law_438 ?_
  refine va_sld X.1 X.2.1 hXs hbl hbA hS (i := nI ((5 * k) + 1)) (vp_in_nI (by omega) (by omega)) dL_law_439 ?_
  refine lv_aload_n X.1 X.2.1 dL_law_440 rfl (lv_at hl 0 rfl) ?_
  refine lv_iload_n X.1 X.2.1 dL_law_441 rfl (lv_at hl 3 rfl) ?_
  refine lv_iconst (v := nI 2) X.1 X.2.1 dL_law_442 rfl ?_
  refine rn_iadd X.1 X.2.1 dL_law_443 ?_
  refine va_sld X.1 X.2.1 hXs hbl hbA hS (i := nI ((5 * k) + 2)) (vp_in_nI (by omega) (by omega)) dL_law_444 ?_
  refine x_cWi (x_runV X hN hRX (As := [.int (xs (nI ((5 * k) + 1)).toNatClampNeg), .int (xs (nI ((5 * k) + 2)).toNatClampNeg)]) (rest := []) (x_X0_of l dC dI dA n k σ ab be (xs (nI ((5 * k) + 1)).toNatClampNeg) (xs (nI ((5 * k) + 2)).toNatClampNeg)) xkv__law_58 (RX.recv X.2.2.2.2.2 hRX) rfl rfl ⟨Nat.le_of_ble_eq_true rfl, Nat.le_of_ble_eq_true rfl⟩ hl.1 (Nat.le_of_ble_eq_true rfl) dL_law_445 ⟨by show _ ≤ 601024; omega, by show _ ≤ 7293034; omega⟩) hS (fun q h => h.1) (fun q h => h.1) (fun rc _ H1 locs1 erc hRX1 hz1 hk1 hS1 => ?_)
  refine W.fgtn hn hS1 ?_
  replace hS := hS1.fg
  subst erc
  have hMd := lw_keepM hMd hz112 (fun q h1 h2 h3 => by have := h3.2; omega) hk1
  clear hk1 hz112
  have hz112 := hRX1.sz
  refine lv_aload_n X.1 X.2.1 dL_law_448 rfl (lv_at hl 2 rfl) ?_
  refine lv_aload_n X.1 X.2.1 dL_law_449 rfl (lv_at hl 0 rfl) ?_
  refine lv_iload_n X.1 X.2.1 dL_law_450 rfl (lv_at hl 3 rfl) ?_
  refine lv_iconst (v := nI 1) X.1 X.2.1 dL_law_451 rfl ?_
  refine rn_iadd X.1 X.2.1 dL_law_452 ?_
  refine va_sld X.1 X.2.1 hXs hbl hbA hS (i := nI ((5 * k) + 1)) (vp_in_nI (by omega) (by omega)) dL_law_453 ?_
  refine lv_aload_n X.1 X.2.1 dL_law_454 rfl (lv_at hl 0 rfl) ?_
  refine lv_iload_n X.1 X.2.1 dL_law_455 rfl (lv_at hl 3 rfl) ?_
  refine lv_iconst (v := nI 2) X.1 X.2.1 dL_law_456 rfl ?_
  refine rn_iadd X.1 X.2.1 dL_law_457 ?_
  refine va_sld X.1 X.2.1 hXs hbl hbA hS (i := nI ((5 * k) + 2)) (vp_in_nI (by omega) (by omega)) dL_law_458 ?_
  refine va_calli (md_runL X hMd (As := [.int (xs (nI ((5 * k) + 1)).toNatClampNeg), .int (xs (nI ((5 * k) + 2)).toNatClampNeg)]) (rest := [.int ((sp_of σ (xs (nI ((5 * k) + 1)).toNatClampNeg) (xs (nI ((5 * k) + 2)).toNatClampNeg)).1)]) (met_of l dC dI dA (n + 96) σ ab be (xs (nI ((5 * k) + 1)).toNatClampNeg) (xs (nI ((5 * k) + 2)).toNatClampNeg) many e0.1 e0.2) xkv__law_61 rfl rfl rfl ⟨Nat.le_of_ble_eq_true rfl, Nat.le_of_ble_eq_true rfl⟩ hl.1 (Nat.le_of_ble_eq_true rfl) dL_law_459 ⟨by show _ ≤ 601024; omega, by show _ ≤ 7293034; omega⟩) hS (fun q _ h => by have := h.1; omega) (fun q h => by have := h.1; omega) (fun rm u t H2 locs2 et _ hp hB hz2 hk2 hS2 => ?_)
  refine W.fgtn hn hS2 ?_
  replace hS := hS2.fg
  subst et
  refine lv_icmp_eq (tgt := 1168) X.1 X.2.1 dL_law_462 (by decide) (fun _ => ?_) (fun hne => absurd (hp.1.symm) hne)
  refine W.pad (cells2 := 200 + 1400 * (k + 1)) (slots2 := 3300 + 10300 * (k + 1)) (by omega) (by omega) ?_
  have hRX2 := hRX1.kept hz2 hk2
  exact back u ab be _ ls ⟨(by rw [hp.2]; exact (hRX2.up (Nat.le_succ k))), hB.1, hS⟩ hl
theorem lwc_11 {p : Program} {l : Launch} {e : Env} {s : State} {m : MethodId} {below : List Frame} {meth : Method} {c : Code} {b L : Nat} {xs : Nat → Int32} {dC : Nat → ClassId} {dI : Nat → Nat → Nat} {dA : Nat → ClassId} {n t_ : Nat} {ad adK adV : Nat → Nat} {fm us sb : Nat} (X : xC dC dI dA p s m c #[Value.ref b] code 4 R_law) (hN : rvN s) (Y : lwK dC dI s n b L xs t_ ad adK adV fm us sb) (k : Nat) (hk : 5 * k + 5 ≤ L) (back : lwB p l e s m below meth c b n dC dI dA k) (σ : mdT) (ab be : Int64) (H : Heap) (ls : Array Slot) (hs_ : lwS dC dI dA n k σ ab be s.heap H) (hl : lv_has ls 4 (lwL b n k)) : W p l e room_1 s m #[Value.ref b] below meth c H [] (200 + 1400 * k) (3300 + 10300 * k) (lw_Z below #[Value.ref b] s) (F0 m 467 ls []) := by
  obtain ⟨hn, hXs, hbn, hL3, hZa, hAl, hZr⟩ := Y
  obtain ⟨hRX, hMd, hS⟩ := hs_
  have hz112 := hRX.sz
  have hbl : b < s.heap.size := hn ▸ hbn
  have hbA : ¬ n ≤ b := by omega
  obtain ⟨many, rent, rd, un, hs, ev, ty, e0, e1, e5, e6, e4, e2, e15⟩ := hRX.nums
  refine lv_aload_n X.1 X.2.1 dL_law_467 rfl (lv_at hl 1 rfl) ?_
  refine lv_aload_n X.1 X.2.1 dL_law_468 rfl (lv_at hl 0 rfl) ?_
  refine lv_iload_n X.1 X.2.1 dL_law_469 rfl (lv_at hl 3 rfl) ?_
  refine lv_iconst (v := nI 1) X.1 X.2.1 dL_law_470 rfl ?_
  refine rn_iadd X.1 X.2.1 dL_law_471 ?_
  refine va_sld X.1 X.2.1 hXs hbl hbA hS (i := nI ((5 * k) + 1)) (vp_in_nI (by omega) (by omega)) dL_law_472 ?_
  refine lv_aload_n X.1 X.2.1 dL_law_473 rfl (lv_at hl 0 rfl) ?_
  refine lv_iload_n X.1 X.2.1 dL_law_474 rfl (lv_at hl 3 rfl) ?_
  refine lv_iconst (v := nI 2) X.1 X.2.1 dL_law_475 rfl ?_
  refine rn_iadd X.1 X.2.1 dL_law_476 ?_
  refine va_sld X.1 X.2.1 hXs hbl hbA hS (i := nI ((5 * k) + 2)) (vp_in_nI (by omega) (by omega)) dL_law_477 ?_
  refine x_cWi (x_runV X hN hRX (As := [.int (xs (nI ((5 * k) + 1)).toNatClampNeg), .int (xs (nI ((5 * k) + 2)).toNatClampNeg)]) (rest := []) (x_X0_about l dC dI dA n k σ ab be (xs (nI ((5 * k) + 1)).toNatClampNeg) (xs (nI ((5 * k) + 2)).toNatClampNeg)) xkv__law_62 (RX.recv X.2.2.2.2.2 hRX) rfl rfl ⟨Nat.le_of_ble_eq_true rfl, Nat.le_of_ble_eq_true rfl⟩ hl.1 (Nat.le_of_ble_eq_true rfl) dL_law_478 ⟨by show _ ≤ 601024; omega, by show _ ≤ 7293034; omega⟩) hS (fun q h => h.1) (fun q h => h.1) (fun rc _ H1 locs1 erc hRX1 hz1 hk1 hS1 => ?_)
  refine W.fgtn hn hS1 ?_
  replace hS := hS1.fg
  subst erc
  have hMd := lw_keepM hMd hz112 (fun q h1 h2 h3 => by have := h3.2; omega) hk1
  clear hk1 hz112
  have hz112 := hRX1.sz
  refine lv_aload_n X.1 X.2.1 dL_law_481 rfl (lv_at hl 2 rfl) ?_
  refine lv_aload_n X.1 X.2.1 dL_law_482 rfl (lv_at hl 0 rfl) ?_
  refine lv_iload_n X.1 X.2.1 dL_law_483 rfl (lv_at hl 3 rfl) ?_
  refine lv_iconst (v := nI 1) X.1 X.2.1 dL_law_484 rfl ?_
  refine rn_iadd X.1 X.2.1 dL_law_485 ?_
  refine va_sld X.1 X.2.1 hXs hbl hbA hS (i := nI ((5 * k) + 1)) (vp_in_nI (by omega) (by omega)) dL_law_486 ?_
  refine lv_aload_n X.1 X.2.1 dL_law_487 rfl (lv_at hl 0 rfl) ?_
  refine lv_iload_n X.1 X.2.1 dL_law_488 rfl (lv_at hl 3 rfl) ?_
  refine lv_iconst (v := nI 2) X.1 X.2.1 dL_law_489 rfl ?_
  refine rn_iadd X.1 X.2.1 dL_law_490 ?_
  refine va_sld X.1 X.2.1 hXs hbl hbA hS (i := nI ((5 * k) + 2)) (vp_in_nI (by omega) (by omega)) dL_law_491 ?_
  refine va_calli (md_runL X hMd (As := [.int (xs (nI ((5 * k) + 1)).toNatClampNeg), .int (xs (nI ((5 * k) + 2)).toNatClampNeg)]) (rest := [.int ((sp_about σ (xs (nI ((5 * k) + 1)).toNatClampNeg) (xs (nI ((5 * k) + 2)).toNatClampNeg)).1)]) (met_about l dC dI dA (n + 96) σ ab be (xs (nI ((5 * k) + 1)).toNatClampNeg) (xs (nI ((5 * k) + 2)).toNatClampNeg) many e0.1 e0.2 rent e1.1 e1.2) xkv__law_65 rfl rfl rfl ⟨Nat.le_of_ble_eq_true rfl, Nat.le_of_ble_eq_true rfl⟩ hl.1 (Nat.le_of_ble_eq_true rfl) dL_law_492 ⟨by show _ ≤ 601024; omega, by show _ ≤ 7293034; omega⟩) hS (fun q _ h => by have := h.1; omega) (fun q h => by have := h.1; omega) (fun rm u t H2 locs2 et _ hp hB hz2 hk2 hS2 => ?_)
  refine W.fgtn hn hS2 ?_
  replace hS := hS2.fg
  subst et
  refine lv_icmp_eq (tgt := 1168) X.1 X.2.1 dL_law_495 (by decide) (fun _ => ?_) (fun hne => absurd (hp.1.symm) hne)
  refine W.pad (cells2 := 200 + 1400 * (k + 1)) (slots2 := 3300 + 10300 * (k + 1)) (by omega) (by omega) ?_
  have hRX2 := hRX1.kept hz2 hk2
  exact back u ab be _ ls ⟨(by rw [hp.2]; exact (hRX2.up (Nat.le_succ k))), hB.1, hS⟩ hl
theorem lwc_12 {p : Program} {l : Launch} {e : Env} {s : State} {m : MethodId} {below : List Frame} {meth : Method} {c : Code} {b L : Nat} {xs : Nat → Int32} {dC : Nat → ClassId} {dI : Nat → Nat → Nat} {dA : Nat → ClassId} {n t_ : Nat} {ad adK adV : Nat → Nat} {fm us sb : Nat} (X : xC dC dI dA p s m c #[Value.ref b] code 4 R_law) (hN : rvN s) (Y : lwK dC dI s n b L xs t_ ad adK adV fm us sb) (k : Nat) (hk : 5 * k + 5 ≤ L) (back : lwB p l e s m below meth c b n dC dI dA k) (σ : mdT) (ab be : Int64) (H : Heap) (ls : Array Slot) (hs_ : lwS dC dI dA n k σ ab be s.heap H) (hl : lv_has ls 4 (lwL b n k)) : W p l e room_1 s m #[Value.ref b] below meth c H [] (200 + 1400 * k) (3300 + 10300 * k) (lw_Z below #[Value.ref b] s) (F0 m 500 ls []) := by
  obtain ⟨hn, hXs, hbn, hL3, hZa, hAl, hZr⟩ := Y
  obtain ⟨hRX, hMd, hS⟩ := hs_
  have hz112 := hRX.sz
  have hbl : b < s.heap.size := hn ▸ hbn
  have hbA : ¬ n ≤ b := by omega
  obtain ⟨many, rent, rd, un, hs, ev, ty, e0, e1, e5, e6, e4, e2, e15⟩ := hRX.nums
  refine lv_aload_n X.1 X.2.1 dL_law_500 rfl (lv_at hl 1 rfl) ?_
  refine lv_aload_n X.1 X.2.1 dL_law_501 rfl (lv_at hl 0 rfl) ?_
  refine lv_iload_n X.1 X.2.1 dL_law_502 rfl (lv_at hl 3 rfl) ?_
  refine lv_iconst (v := nI 1) X.1 X.2.1 dL_law_503 rfl ?_
  refine rn_iadd X.1 X.2.1 dL_law_504 ?_
  refine va_sld X.1 X.2.1 hXs hbl hbA hS (i := nI ((5 * k) + 1)) (vp_in_nI (by omega) (by omega)) dL_law_505 ?_
  refine lv_aload_n X.1 X.2.1 dL_law_506 rfl (lv_at hl 0 rfl) ?_
  refine lv_iload_n X.1 X.2.1 dL_law_507 rfl (lv_at hl 3 rfl) ?_
  refine lv_iconst (v := nI 2) X.1 X.2.1 dL_law_508 rfl ?_
  refine rn_iadd X.1 X.2.1 dL_law_509 ?_
  refine va_sld X.1 X.2.1 hXs hbl hbA hS (i := nI ((5 * k) + 2)) (vp_in_nI (by omega) (by omega)) dL_law_510 ?_
  refine x_cWi (x_runV X hN hRX (As := [.int (xs (nI ((5 * k) + 1)).toNatClampNeg), .int (xs (nI ((5 * k) + 2)).toNatClampNeg)]) (rest := []) (x_X0_shows l dC dI dA n k σ ab be (xs (nI ((5 * k) + 1)).toNatClampNeg) (xs (nI ((5 * k) + 2)).toNatClampNeg)) xkv__law_66 (RX.recv X.2.2.2.2.2 hRX) rfl rfl ⟨Nat.le_of_ble_eq_true rfl, Nat.le_of_ble_eq_true rfl⟩ hl.1 (Nat.le_of_ble_eq_true rfl) dL_law_511 ⟨by show _ ≤ 601024; omega, by show _ ≤ 7293034; omega⟩) hS (fun q h => h.1) (fun q h => h.1) (fun rc _ H1 locs1 erc hRX1 hz1 hk1 hS1 => ?_)
  refine W.fgtn hn hS1 ?_
  replace hS := hS1.fg
  subst erc
  have hMd := lw_keepM hMd hz112 (fun q h1 h2 h3 => by have := h3.2; omega) hk1
  clear hk1 hz112
  have hz112 := hRX1.sz
  refine lv_aload_n X.1 X.2.1 dL_law_514 rfl (lv_at hl 2 rfl) ?_
  refine lv_aload_n X.1 X.2.1 dL_law_515 rfl (lv_at hl 0 rfl) ?_
  refine lv_iload_n X.1 X.2.1 dL_law_516 rfl (lv_at hl 3 rfl) ?_
  refine lv_iconst (v := nI 1) X.1 X.2.1 dL_law_517 rfl ?_
  refine rn_iadd X.1 X.2.1 dL_law_518 ?_
  refine va_sld X.1 X.2.1 hXs hbl hbA hS (i := nI ((5 * k) + 1)) (vp_in_nI (by omega) (by omega)) dL_law_519 ?_
  refine lv_aload_n X.1 X.2.1 dL_law_520 rfl (lv_at hl 0 rfl) ?_
  refine lv_iload_n X.1 X.2.1 dL_law_521 rfl (lv_at hl 3 rfl) ?_
  refine lv_iconst (v := nI 2) X.1 X.2.1 dL_law_522 rfl ?_
  refine rn_iadd X.1 X.2.1 dL_law_523 ?_
  refine va_sld X.1 X.2.1 hXs hbl hbA hS (i := nI ((5 * k) + 2)) (vp_in_nI (by omega) (by omega)) dL_law_524 ?_
  refine va_calli (md_runL X hMd (As := [.int (xs (nI ((5 * k) + 1)).toNatClampNeg), .int (xs (nI ((5 * k) + 2)).toNatClampNeg)]) (rest := [.int ((sp_shows σ (xs (nI ((5 * k) + 1)).toNatClampNeg) (xs (nI ((5 * k) + 2)).toNatClampNeg)).1)]) (met_shows l dC dI dA (n + 96) σ ab be (xs (nI ((5 * k) + 1)).toNatClampNeg) (xs (nI ((5 * k) + 2)).toNatClampNeg) many e0.1 e0.2) xkv__law_69 rfl rfl rfl ⟨Nat.le_of_ble_eq_true rfl, Nat.le_of_ble_eq_true rfl⟩ hl.1 (Nat.le_of_ble_eq_true rfl) dL_law_525 ⟨by show _ ≤ 601024; omega, by show _ ≤ 7293034; omega⟩) hS (fun q _ h => by have := h.1; omega) (fun q h => by have := h.1; omega) (fun rm u t H2 locs2 et _ hp hB hz2 hk2 hS2 => ?_)
  refine W.fgtn hn hS2 ?_
  replace hS := hS2.fg
  subst et
  refine lv_icmp_eq (tgt := 1168) X.1 X.2.1 dL_law_528 (by decide) (fun _ => ?_) (fun hne => absurd (hp.1.symm) hne)
  refine W.pad (cells2 := 200 + 1400 * (k + 1)) (slots2 := 3300 + 10300 * (k + 1)) (by omega) (by omega) ?_
  have hRX2 := hRX1.kept hz2 hk2
  exact back u ab be _ ls ⟨(by rw [hp.2]; exact (hRX2.up (Nat.le_succ k))), hB.1, hS⟩ hl
theorem lwc_13 {p : Program} {l : Launch} {e : Env} {s : State} {m : MethodId} {below : List Frame} {meth : Method} {c : Code} {b L : Nat} {xs : Nat → Int32} {dC : Nat → ClassId} {dI : Nat → Nat → Nat} {dA : Nat → ClassId} {n t_ : Nat} {ad adK adV : Nat → Nat} {fm us sb : Nat} (X : xC dC dI dA p s m c #[Value.ref b] code 4 R_law) (hN : rvN s) (Y : lwK dC dI s n b L xs t_ ad adK adV fm us sb) (k : Nat) (hk : 5 * k + 5 ≤ L) (back : lwB p l e s m below meth c b n dC dI dA k) (σ : mdT) (ab be : Int64) (H : Heap) (ls : Array Slot) (hs_ : lwS dC dI dA n k σ ab be s.heap H) (hl : lv_has ls 4 (lwL b n k)) : W p l e room_1 s m #[Value.ref b] below meth c H [] (200 + 1400 * k) (3300 + 10300 * k) (lw_Z below #[Value.ref b] s) (F0 m 533 ls []) := by
  obtain ⟨hn, hXs, hbn, hL3, hZa, hAl, hZr⟩ := Y
  obtain ⟨hRX, hMd, hS⟩ := hs_
  have hz112 := hRX.sz
  have hbl : b < s.heap.size := hn ▸ hbn
  have hbA : ¬ n ≤ b := by omega
  obtain ⟨many, rent, rd, un, hs, ev, ty, e0, e1, e5, e6, e4, e2, e15⟩ := hRX.nums
  refine lv_aload_n X.1 X.2.1 dL_law_533 rfl (lv_at hl 1 rfl) ?_
  refine lv_aload_n X.1 X.2.1 dL_law_534 rfl (lv_at hl 0 rfl) ?_
  refine lv_iload_n X.1 X.2.1 dL_law_535 rfl (lv_at hl 3 rfl) ?_
  refine lv_iconst (v := nI 1) X.1 X.2.1 dL_law_536 rfl ?_
  refine rn_iadd X.1 X.2.1 dL_law_537 ?_
  refine va_sld X.1 X.2.1 hXs hbl hbA hS (i := nI ((5 * k) + 1)) (vp_in_nI (by omega) (by omega)) dL_law_538 ?_
  refine lv_aload_n X.1 X.2.1 dL_law_539 rfl (lv_at hl 0 rfl) ?_
  refine lv_iload_n X.1 X.2.1 dL_law_540 rfl (lv_at hl 3 rfl) ?_
  refine lv_iconst (v := nI 2) X.1 X.2.1 dL_law_541 rfl ?_
  refine rn_iadd X.1 X.2.1 dL_law_542 ?_
  refine va_sld X.1 X.2.1 hXs hbl hbA hS (i := nI ((5 * k) + 2)) (vp_in_nI (by omega) (by omega)) dL_law_543 ?_
  refine lv_aload_n X.1 X.2.1 dL_law_544 rfl (lv_at hl 0 rfl) ?_
  refine lv_iload_n X.1 X.2.1 dL_law_545 rfl (lv_at hl 3 rfl) ?_
  refine lv_iconst (v := nI 3) X.1 X.2.1 dL_law_546 rfl ?_
  refine rn_iadd X.1 X.2.1 dL_law_547 ?_
  refine va_sld X.1 X.2.1 hXs hbl hbA hS (i := nI ((5 * k) + 3)) (vp_in_nI (by omega) (by omega)) dL_law_548 ?_
  refine x_cWi (x_runV X hN hRX (As := [.int (xs (nI ((5 * k) + 1)).toNatClampNeg), .int (xs (nI ((5 * k) + 2)).toNatClampNeg), .int (xs (nI ((5 * k) + 3)).toNatClampNeg)]) (rest := []) (x_X0_suits l dC dI dA n k σ ab be (xs (nI ((5 * k) + 1)).toNatClampNeg) (xs (nI ((5 * k) + 2)).toNatClampNeg) (xs (nI ((5 * k) + 3)).toNatClampNeg)) xkv__law_70 (RX.recv X.2.2.2.2.2 hRX) rfl rfl ⟨Nat.le_of_ble_eq_true rfl, Nat.le_of_ble_eq_true rfl⟩ hl.1 (Nat.le_of_ble_eq_true rfl) dL_law_549 ⟨by show _ ≤ 601024; omega, by show _ ≤ 7293034; omega⟩) hS (fun q h => h.1) (fun q h => h.1) (fun rc _ H1 locs1 erc hRX1 hz1 hk1 hS1 => ?_)
  refine W.fgtn hn hS1 ?_
  replace hS := hS1.fg
  subst erc
  have hMd := lw_keepM hMd hz112 (fun q h1 h2 h3 => by have := h3.2; omega) hk1
  clear hk1 hz112
  have hz112 := hRX1.sz
  refine lv_aload_n X.1 X.2.1 dL_law_552 rfl (lv_at hl 2 rfl) ?_
  refine lv_aload_n X.1 X.2.1 dL_law_553 rfl (lv_at hl 0 rfl) ?_
  refine lv_iload_n X.1 X.2.1 dL_law_554 rfl (lv_at hl 3 rfl) ?_
  refine lv_iconst (v := nI 1) X.1 X.2.1 dL_law_555 rfl ?_
  refine rn_iadd X.1 X.2.1 dL_law_556 ?_
  refine va_sld X.1 X.2.1 hXs hbl hbA hS (i := nI ((5 * k) + 1)) (vp_in_nI (by omega) (by omega)) dL_law_557 ?_
  refine lv_aload_n X.1 X.2.1 dL_law_558 rfl (lv_at hl 0 rfl) ?_
  refine lv_iload_n X.1 X.2.1 dL_law_559 rfl (lv_at hl 3 rfl) ?_
  refine lv_iconst (v := nI 2) X.1 X.2.1 dL_law_560 rfl ?_
  refine rn_iadd X.1 X.2.1 dL_law_561 ?_
  refine va_sld X.1 X.2.1 hXs hbl hbA hS (i := nI ((5 * k) + 2)) (vp_in_nI (by omega) (by omega)) dL_law_562 ?_
  refine lv_aload_n X.1 X.2.1 dL_law_563 rfl (lv_at hl 0 rfl) ?_
  refine lv_iload_n X.1 X.2.1 dL_law_564 rfl (lv_at hl 3 rfl) ?_
  refine lv_iconst (v := nI 3) X.1 X.2.1 dL_law_565 rfl ?_
  refine rn_iadd X.1 X.2.1 dL_law_566 ?_
  refine va_sld X.1 X.2.1 hXs hbl hbA hS (i := nI ((5 * k) + 3)) (vp_in_nI (by omega) (by omega)) dL_law_567 ?_
  refine va_calli (md_runL X hMd (As := [.int (xs (nI ((5 * k) + 1)).toNatClampNeg), .int (xs (nI ((5 * k) + 2)).toNatClampNeg), .int (xs (nI ((5 * k) + 3)).toNatClampNeg)]) (rest := [.int ((sp_suits σ (xs (nI ((5 * k) + 1)).toNatClampNeg) (xs (nI ((5 * k) + 2)).toNatClampNeg) (xs (nI ((5 * k) + 3)).toNatClampNeg)).1)]) (met_suits l dC dI dA (n + 96) σ ab be (xs (nI ((5 * k) + 1)).toNatClampNeg) (xs (nI ((5 * k) + 2)).toNatClampNeg) (xs (nI ((5 * k) + 3)).toNatClampNeg) many e0.1 e0.2 rent e1.1 e1.2) xkv__law_73 rfl rfl rfl ⟨Nat.le_of_ble_eq_true rfl, Nat.le_of_ble_eq_true rfl⟩ hl.1 (Nat.le_of_ble_eq_true rfl) dL_law_568 ⟨by show _ ≤ 601024; omega, by show _ ≤ 7293034; omega⟩) hS (fun q _ h => by have := h.1; omega) (fun q h => by have := h.1; omega) (fun rm u t H2 locs2 et _ hp hB hz2 hk2 hS2 => ?_)
  refine W.fgtn hn hS2 ?_
  replace hS := hS2.fg
  subst et
  refine lv_icmp_eq (tgt := 1168) X.1 X.2.1 dL_law_571 (by decide) (fun _ => ?_) (fun hne => absurd (hp.1.symm) hne)
  refine W.pad (cells2 := 200 + 1400 * (k + 1)) (slots2 := 3300 + 10300 * (k + 1)) (by omega) (by omega) ?_
  have hRX2 := hRX1.kept hz2 hk2
  exact back u ab be _ ls ⟨((hRX2.up (Nat.le_succ k)).q hp.2), hB.1, hS⟩ hl
theorem lwc_14 {p : Program} {l : Launch} {e : Env} {s : State} {m : MethodId} {below : List Frame} {meth : Method} {c : Code} {b L : Nat} {xs : Nat → Int32} {dC : Nat → ClassId} {dI : Nat → Nat → Nat} {dA : Nat → ClassId} {n t_ : Nat} {ad adK adV : Nat → Nat} {fm us sb : Nat} (X : xC dC dI dA p s m c #[Value.ref b] code 4 R_law) (hN : rvN s) (Y : lwK dC dI s n b L xs t_ ad adK adV fm us sb) (k : Nat) (hk : 5 * k + 5 ≤ L) (back : lwB p l e s m below meth c b n dC dI dA k) (σ : mdT) (ab be : Int64) (H : Heap) (ls : Array Slot) (hs_ : lwS dC dI dA n k σ ab be s.heap H) (hl : lv_has ls 4 (lwL b n k)) : W p l e room_1 s m #[Value.ref b] below meth c H [] (200 + 1400 * k) (3300 + 10300 * k) (lw_Z below #[Value.ref b] s) (F0 m 576 ls []) := by
  obtain ⟨hn, hXs, hbn, hL3, hZa, hAl, hZr⟩ := Y
  obtain ⟨hRX, hMd, hS⟩ := hs_
  have hz112 := hRX.sz
  have hbl : b < s.heap.size := hn ▸ hbn
  have hbA : ¬ n ≤ b := by omega
  obtain ⟨many, rent, rd, un, hs, ev, ty, e0, e1, e5, e6, e4, e2, e15⟩ := hRX.nums
  refine lv_aload_n X.1 X.2.1 dL_law_576 rfl (lv_at hl 1 rfl) ?_
  refine lv_aload_n X.1 X.2.1 dL_law_577 rfl (lv_at hl 0 rfl) ?_
  refine lv_iload_n X.1 X.2.1 dL_law_578 rfl (lv_at hl 3 rfl) ?_
  refine lv_iconst (v := nI 1) X.1 X.2.1 dL_law_579 rfl ?_
  refine rn_iadd X.1 X.2.1 dL_law_580 ?_
  refine va_sld X.1 X.2.1 hXs hbl hbA hS (i := nI ((5 * k) + 1)) (vp_in_nI (by omega) (by omega)) dL_law_581 ?_
  refine lv_aload_n X.1 X.2.1 dL_law_582 rfl (lv_at hl 0 rfl) ?_
  refine lv_iload_n X.1 X.2.1 dL_law_583 rfl (lv_at hl 3 rfl) ?_
  refine lv_iconst (v := nI 2) X.1 X.2.1 dL_law_584 rfl ?_
  refine rn_iadd X.1 X.2.1 dL_law_585 ?_
  refine va_sld X.1 X.2.1 hXs hbl hbA hS (i := nI ((5 * k) + 2)) (vp_in_nI (by omega) (by omega)) dL_law_586 ?_
  refine x_cWi (x_runV X hN hRX (As := [.int (xs (nI ((5 * k) + 1)).toNatClampNeg), .int (xs (nI ((5 * k) + 2)).toNatClampNeg)]) (rest := []) (x_X0_best l dC dI dA n k σ ab be (xs (nI ((5 * k) + 1)).toNatClampNeg) (xs (nI ((5 * k) + 2)).toNatClampNeg)) xkv__law_74 (RX.recv X.2.2.2.2.2 hRX) rfl rfl ⟨Nat.le_of_ble_eq_true rfl, Nat.le_of_ble_eq_true rfl⟩ hl.1 (Nat.le_of_ble_eq_true rfl) dL_law_587 ⟨by show _ ≤ 601024; omega, by show _ ≤ 7293034; omega⟩) hS (fun q h => h.1) (fun q h => h.1) (fun rc _ H1 locs1 erc hRX1 hz1 hk1 hS1 => ?_)
  refine W.fgtn hn hS1 ?_
  replace hS := hS1.fg
  subst erc
  have hMd := lw_keepM hMd hz112 (fun q h1 h2 h3 => by have := h3.2; omega) hk1
  clear hk1 hz112
  have hz112 := hRX1.sz
  refine lv_aload_n X.1 X.2.1 dL_law_590 rfl (lv_at hl 2 rfl) ?_
  refine lv_aload_n X.1 X.2.1 dL_law_591 rfl (lv_at hl 0 rfl) ?_
  refine lv_iload_n X.1 X.2.1 dL_law_592 rfl (lv_at hl 3 rfl) ?_
  refine lv_iconst (v := nI 1) X.1 X.2.1 dL_law_593 rfl ?_
  refine rn_iadd X.1 X.2.1 dL_law_594 ?_
  refine va_sld X.1 X.2.1 hXs hbl hbA hS (i := nI ((5 * k) + 1)) (vp_in_nI (by omega) (by omega)) dL_law_595 ?_
  refine lv_aload_n X.1 X.2.1 dL_law_596 rfl (lv_at hl 0 rfl) ?_
  refine lv_iload_n X.1 X.2.1 dL_law_597 rfl (lv_at hl 3 rfl) ?_
  refine lv_iconst (v := nI 2) X.1 X.2.1 dL_law_598 rfl ?_
  refine rn_iadd X.1 X.2.1 dL_law_599 ?_
  refine va_sld X.1 X.2.1 hXs hbl hbA hS (i := nI ((5 * k) + 2)) (vp_in_nI (by omega) (by omega)) dL_law_600 ?_
  refine va_calli (md_runL X hMd (As := [.int (xs (nI ((5 * k) + 1)).toNatClampNeg), .int (xs (nI ((5 * k) + 2)).toNatClampNeg)]) (rest := [.int ((sp_best σ (xs (nI ((5 * k) + 1)).toNatClampNeg) (xs (nI ((5 * k) + 2)).toNatClampNeg)).1)]) (met_best l dC dI dA (n + 96) σ ab be (xs (nI ((5 * k) + 1)).toNatClampNeg) (xs (nI ((5 * k) + 2)).toNatClampNeg) many e0.1 e0.2 rent e1.1 e1.2) xkv__law_77 rfl rfl rfl ⟨Nat.le_of_ble_eq_true rfl, Nat.le_of_ble_eq_true rfl⟩ hl.1 (Nat.le_of_ble_eq_true rfl) dL_law_601 ⟨by show _ ≤ 601024; omega, by show _ ≤ 7293034; omega⟩) hS (fun q _ h => by have := h.1; omega) (fun q h => by have := h.1; omega) (fun rm u t H2 locs2 et _ hp hB hz2 hk2 hS2 => ?_)
  refine W.fgtn hn hS2 ?_
  replace hS := hS2.fg
  subst et
  refine lv_icmp_eq (tgt := 1168) X.1 X.2.1 dL_law_604 (by decide) (fun _ => ?_) (fun hne => absurd (hp.1.symm) hne)
  refine W.pad (cells2 := 200 + 1400 * (k + 1)) (slots2 := 3300 + 10300 * (k + 1)) (by omega) (by omega) ?_
  have hRX2 := hRX1.kept hz2 hk2
  exact back u ab be _ ls ⟨((hRX2.up (Nat.le_succ k)).q hp.2), hB.1, hS⟩ hl
theorem lwc_15 {p : Program} {l : Launch} {e : Env} {s : State} {m : MethodId} {below : List Frame} {meth : Method} {c : Code} {b L : Nat} {xs : Nat → Int32} {dC : Nat → ClassId} {dI : Nat → Nat → Nat} {dA : Nat → ClassId} {n t_ : Nat} {ad adK adV : Nat → Nat} {fm us sb : Nat} (X : xC dC dI dA p s m c #[Value.ref b] code 4 R_law) (hN : rvN s) (Y : lwK dC dI s n b L xs t_ ad adK adV fm us sb) (k : Nat) (hk : 5 * k + 5 ≤ L) (back : lwB p l e s m below meth c b n dC dI dA k) (σ : mdT) (ab be : Int64) (H : Heap) (ls : Array Slot) (hs_ : lwS dC dI dA n k σ ab be s.heap H) (hl : lv_has ls 4 (lwL b n k)) : W p l e room_1 s m #[Value.ref b] below meth c H [] (200 + 1400 * k) (3300 + 10300 * k) (lw_Z below #[Value.ref b] s) (F0 m 609 ls []) := by
  obtain ⟨hn, hXs, hbn, hL3, hZa, hAl, hZr⟩ := Y
  obtain ⟨hRX, hMd, hS⟩ := hs_
  have hz112 := hRX.sz
  have hbl : b < s.heap.size := hn ▸ hbn
  have hbA : ¬ n ≤ b := by omega
  obtain ⟨many, rent, rd, un, hs, ev, ty, e0, e1, e5, e6, e4, e2, e15⟩ := hRX.nums
  refine lv_aload_n X.1 X.2.1 dL_law_609 rfl (lv_at hl 1 rfl) ?_
  refine lv_aload_n X.1 X.2.1 dL_law_610 rfl (lv_at hl 0 rfl) ?_
  refine lv_iload_n X.1 X.2.1 dL_law_611 rfl (lv_at hl 3 rfl) ?_
  refine lv_iconst (v := nI 1) X.1 X.2.1 dL_law_612 rfl ?_
  refine rn_iadd X.1 X.2.1 dL_law_613 ?_
  refine va_sld X.1 X.2.1 hXs hbl hbA hS (i := nI ((5 * k) + 1)) (vp_in_nI (by omega) (by omega)) dL_law_614 ?_
  refine x_cWi (x_runV X hN hRX (As := [.int (xs (nI ((5 * k) + 1)).toNatClampNeg)]) (rest := []) (x_X0_money l dC dI dA n k σ ab be (xs (nI ((5 * k) + 1)).toNatClampNeg)) xkv__law_78 (RX.recv X.2.2.2.2.2 hRX) rfl rfl ⟨Nat.le_of_ble_eq_true rfl, Nat.le_of_ble_eq_true rfl⟩ hl.1 (Nat.le_of_ble_eq_true rfl) dL_law_615 ⟨by show _ ≤ 601024; omega, by show _ ≤ 7293034; omega⟩) hS (fun q h => h.1) (fun q h => h.1) (fun rc _ H1 locs1 erc hRX1 hz1 hk1 hS1 => ?_)
  refine W.fgtn hn hS1 ?_
  replace hS := hS1.fg
  subst erc
  have hMd := lw_keepM hMd hz112 (fun q h1 h2 h3 => by have := h3.2; omega) hk1
  clear hk1 hz112
  have hz112 := hRX1.sz
  refine lv_aload_n X.1 X.2.1 dL_law_618 rfl (lv_at hl 2 rfl) ?_
  refine lv_aload_n X.1 X.2.1 dL_law_619 rfl (lv_at hl 0 rfl) ?_
  refine lv_iload_n X.1 X.2.1 dL_law_620 rfl (lv_at hl 3 rfl) ?_
  refine lv_iconst (v := nI 1) X.1 X.2.1 dL_law_621 rfl ?_
  refine rn_iadd X.1 X.2.1 dL_law_622 ?_
  refine va_sld X.1 X.2.1 hXs hbl hbA hS (i := nI ((5 * k) + 1)) (vp_in_nI (by omega) (by omega)) dL_law_623 ?_
  refine va_calli (md_runL X hMd (As := [.int (xs (nI ((5 * k) + 1)).toNatClampNeg)]) (rest := [.int ((sp_money σ (xs (nI ((5 * k) + 1)).toNatClampNeg)).1)]) (met_money l dC dI dA (n + 96) σ ab be (xs (nI ((5 * k) + 1)).toNatClampNeg) many e0.1 e0.2 rent e1.1 e1.2) xkv__law_81 rfl rfl rfl ⟨Nat.le_of_ble_eq_true rfl, Nat.le_of_ble_eq_true rfl⟩ hl.1 (Nat.le_of_ble_eq_true rfl) dL_law_624 ⟨by show _ ≤ 601024; omega, by show _ ≤ 7293034; omega⟩) hS (fun q _ h => by have := h.1; omega) (fun q h => by have := h.1; omega) (fun rm u t H2 locs2 et _ hp hB hz2 hk2 hS2 => ?_)
  refine W.fgtn hn hS2 ?_
  replace hS := hS2.fg
  subst et
  refine lv_icmp_eq (tgt := 1168) X.1 X.2.1 dL_law_627 (by decide) (fun _ => ?_) (fun hne => absurd (hp.1.symm) hne)
  refine W.pad (cells2 := 200 + 1400 * (k + 1)) (slots2 := 3300 + 10300 * (k + 1)) (by omega) (by omega) ?_
  have hRX2 := hRX1.kept hz2 hk2
  exact back u ab be _ ls ⟨((hRX2.up (Nat.le_succ k)).q hp.2), hB.1, hS⟩ hl
theorem lwc_16 {p : Program} {l : Launch} {e : Env} {s : State} {m : MethodId} {below : List Frame} {meth : Method} {c : Code} {b L : Nat} {xs : Nat → Int32} {dC : Nat → ClassId} {dI : Nat → Nat → Nat} {dA : Nat → ClassId} {n t_ : Nat} {ad adK adV : Nat → Nat} {fm us sb : Nat} (X : xC dC dI dA p s m c #[Value.ref b] code 4 R_law) (hN : rvN s) (Y : lwK dC dI s n b L xs t_ ad adK adV fm us sb) (k : Nat) (hk : 5 * k + 5 ≤ L) (back : lwB p l e s m below meth c b n dC dI dA k) (σ : mdT) (ab be : Int64) (H : Heap) (ls : Array Slot) (hs_ : lwS dC dI dA n k σ ab be s.heap H) (hl : lv_has ls 4 (lwL b n k)) : W p l e room_1 s m #[Value.ref b] below meth c H [] (200 + 1400 * k) (3300 + 10300 * k) (lw_Z below #[Value.ref b] s) (F0 m 632 ls []) := by
  obtain ⟨hn, hXs, hbn, hL3, hZa, hAl, hZr⟩ := Y
  obtain ⟨hRX, hMd, hS⟩ := hs_
  have hz112 := hRX.sz
  have hbl : b < s.heap.size := hn ▸ hbn
  have hbA : ¬ n ≤ b := by omega
  obtain ⟨many, rent, rd, un, hs, ev, ty, e0, e1, e5, e6, e4, e2, e15⟩ := hRX.nums
  refine lv_aload_n X.1 X.2.1 dL_law_632 rfl (lv_at hl 1 rfl) ?_
  refine lv_aload_n X.1 X.2.1 dL_law_633 rfl (lv_at hl 0 rfl) ?_
  refine lv_iload_n X.1 X.2.1 dL_law_634 rfl (lv_at hl 3 rfl) ?_
  refine lv_iconst (v := nI 1) X.1 X.2.1 dL_law_635 rfl ?_
  refine rn_iadd X.1 X.2.1 dL_law_636 ?_
  refine va_sld X.1 X.2.1 hXs hbl hbA hS (i := nI ((5 * k) + 1)) (vp_in_nI (by omega) (by omega)) dL_law_637 ?_
  refine lv_aload_n X.1 X.2.1 dL_law_638 rfl (lv_at hl 0 rfl) ?_
  refine lv_iload_n X.1 X.2.1 dL_law_639 rfl (lv_at hl 3 rfl) ?_
  refine lv_iconst (v := nI 2) X.1 X.2.1 dL_law_640 rfl ?_
  refine rn_iadd X.1 X.2.1 dL_law_641 ?_
  refine va_sld X.1 X.2.1 hXs hbl hbA hS (i := nI ((5 * k) + 2)) (vp_in_nI (by omega) (by omega)) dL_law_642 ?_
  refine x_cWi (x_runV X hN hRX (As := [.int (xs (nI ((5 * k) + 1)).toNatClampNeg), .int (xs (nI ((5 * k) + 2)).toNatClampNeg)]) (rest := []) (x_X0_come l dC dI dA n k σ ab be (xs (nI ((5 * k) + 1)).toNatClampNeg) (xs (nI ((5 * k) + 2)).toNatClampNeg)) xkv__law_82 (RX.recv X.2.2.2.2.2 hRX) rfl rfl ⟨Nat.le_of_ble_eq_true rfl, Nat.le_of_ble_eq_true rfl⟩ hl.1 (Nat.le_of_ble_eq_true rfl) dL_law_643 ⟨by show _ ≤ 601024; omega, by show _ ≤ 7293034; omega⟩) hS (fun q h => h.1) (fun q h => h.1) (fun rc _ H1 locs1 erc hRX1 hz1 hk1 hS1 => ?_)
  refine W.fgtn hn hS1 ?_
  replace hS := hS1.fg
  subst erc
  have hMd := lw_keepM hMd hz112 (fun q h1 h2 h3 => by have := h3.2; omega) hk1
  clear hk1 hz112
  have hz112 := hRX1.sz
  refine lv_aload_n X.1 X.2.1 dL_law_646 rfl (lv_at hl 2 rfl) ?_
  refine lv_aload_n X.1 X.2.1 dL_law_647 rfl (lv_at hl 0 rfl) ?_
  refine lv_iload_n X.1 X.2.1 dL_law_648 rfl (lv_at hl 3 rfl) ?_
  refine lv_iconst (v := nI 1) X.1 X.2.1 dL_law_649 rfl ?_
  refine rn_iadd X.1 X.2.1 dL_law_650 ?_
  refine va_sld X.1 X.2.1 hXs hbl hbA hS (i := nI ((5 * k) + 1)) (vp_in_nI (by omega) (by omega)) dL_law_651 ?_
  refine lv_aload_n X.1 X.2.1 dL_law_652 rfl (lv_at hl 0 rfl) ?_
  refine lv_iload_n X.1 X.2.1 dL_law_653 rfl (lv_at hl 3 rfl) ?_
  refine lv_iconst (v := nI 2) X.1 X.2.1 dL_law_654 rfl ?_
  refine rn_iadd X.1 X.2.1 dL_law_655 ?_
  refine va_sld X.1 X.2.1 hXs hbl hbA hS (i := nI ((5 * k) + 2)) (vp_in_nI (by omega) (by omega)) dL_law_656 ?_
  refine va_calli (md_runL X hMd (As := [.int (xs (nI ((5 * k) + 1)).toNatClampNeg), .int (xs (nI ((5 * k) + 2)).toNatClampNeg)]) (rest := [.int ((sp_come σ (xs (nI ((5 * k) + 1)).toNatClampNeg) (xs (nI ((5 * k) + 2)).toNatClampNeg)).1)]) (met_come l dC dI dA (n + 96) σ ab be (xs (nI ((5 * k) + 1)).toNatClampNeg) (xs (nI ((5 * k) + 2)).toNatClampNeg) many e0.1 e0.2 rent e1.1 e1.2) xkv__law_85 rfl rfl rfl ⟨Nat.le_of_ble_eq_true rfl, Nat.le_of_ble_eq_true rfl⟩ hl.1 (Nat.le_of_ble_eq_true rfl) dL_law_657 ⟨by show _ ≤ 601024; omega, by show _ ≤ 7293034; omega⟩) hS (fun q _ h => by have := h.1; omega) (fun q h => by have := h.1; omega) (fun rm u t H2 locs2 et _ hp hB hz2 hk2 hS2 => ?_)
  refine W.fgtn hn hS2 ?_
  replace hS := hS2.fg
  subst et
  refine lv_icmp_eq (tgt := 1168) X.1 X.2.1 dL_law_660 (by decide) (fun _ => ?_) (fun hne => absurd (hp.1.symm) hne)
  refine W.pad (cells2 := 200 + 1400 * (k + 1)) (slots2 := 3300 + 10300 * (k + 1)) (by omega) (by omega) ?_
  have hRX2 := hRX1.kept hz2 hk2
  exact back u ab be _ ls ⟨((hRX2.up (Nat.le_succ k)).q hp.2), hB.1, hS⟩ hl
theorem lwc_17 {p : Program} {l : Launch} {e : Env} {s : State} {m : MethodId} {below : List Frame} {meth : Method} {c : Code} {b L : Nat} {xs : Nat → Int32} {dC : Nat → ClassId} {dI : Nat → Nat → Nat} {dA : Nat → ClassId} {n t_ : Nat} {ad adK adV : Nat → Nat} {fm us sb : Nat} (X : xC dC dI dA p s m c #[Value.ref b] code 4 R_law) (hN : rvN s) (Y : lwK dC dI s n b L xs t_ ad adK adV fm us sb) (k : Nat) (hk : 5 * k + 5 ≤ L) (back : lwB p l e s m below meth c b n dC dI dA k) (σ : mdT) (ab be : Int64) (H : Heap) (ls : Array Slot) (hs_ : lwS dC dI dA n k σ ab be s.heap H) (hl : lv_has ls 4 (lwL b n k)) : W p l e room_1 s m #[Value.ref b] below meth c H [] (200 + 1400 * k) (3300 + 10300 * k) (lw_Z below #[Value.ref b] s) (F0 m 665 ls []) := by
  obtain ⟨hn, hXs, hbn, hL3, hZa, hAl, hZr⟩ := Y
  obtain ⟨hRX, hMd, hS⟩ := hs_
  have hz112 := hRX.sz
  have hbl : b < s.heap.size := hn ▸ hbn
  have hbA : ¬ n ≤ b := by omega
  obtain ⟨many, rent, rd, un, hs, ev, ty, e0, e1, e5, e6, e4, e2, e15⟩ := hRX.nums
  refine lv_aload_n X.1 X.2.1 dL_law_665 rfl (lv_at hl 1 rfl) ?_
  refine lv_aload_n X.1 X.2.1 dL_law_666 rfl (lv_at hl 0 rfl) ?_
  refine lv_iload_n X.1 X.2.1 dL_law_667 rfl (lv_at hl 3 rfl) ?_
  refine lv_iconst (v := nI 1) X.1 X.2.1 dL_law_668 rfl ?_
  refine rn_iadd X.1 X.2.1 dL_law_669 ?_
  refine va_sld X.1 X.2.1 hXs hbl hbA hS (i := nI ((5 * k) + 1)) (vp_in_nI (by omega) (by omega)) dL_law_670 ?_
  refine lv_aload_n X.1 X.2.1 dL_law_671 rfl (lv_at hl 0 rfl) ?_
  refine lv_iload_n X.1 X.2.1 dL_law_672 rfl (lv_at hl 3 rfl) ?_
  refine lv_iconst (v := nI 2) X.1 X.2.1 dL_law_673 rfl ?_
  refine rn_iadd X.1 X.2.1 dL_law_674 ?_
  refine va_sld X.1 X.2.1 hXs hbl hbA hS (i := nI ((5 * k) + 2)) (vp_in_nI (by omega) (by omega)) dL_law_675 ?_
  refine lv_aload_n X.1 X.2.1 dL_law_676 rfl (lv_at hl 0 rfl) ?_
  refine lv_iload_n X.1 X.2.1 dL_law_677 rfl (lv_at hl 3 rfl) ?_
  refine lv_iconst (v := nI 3) X.1 X.2.1 dL_law_678 rfl ?_
  refine rn_iadd X.1 X.2.1 dL_law_679 ?_
  refine va_sld X.1 X.2.1 hXs hbl hbA hS (i := nI ((5 * k) + 3)) (vp_in_nI (by omega) (by omega)) dL_law_680 ?_
  refine lv_aload_n X.1 X.2.1 dL_law_681 rfl (lv_at hl 0 rfl) ?_
  refine lv_iload_n X.1 X.2.1 dL_law_682 rfl (lv_at hl 3 rfl) ?_
  refine lv_iconst (v := nI 4) X.1 X.2.1 dL_law_683 rfl ?_
  refine rn_iadd X.1 X.2.1 dL_law_684 ?_
  refine va_sld X.1 X.2.1 hXs hbl hbA hS (i := nI ((5 * k) + 4)) (vp_in_nI (by omega) (by omega)) dL_law_685 ?_
  refine x_cWi (x_runV X hN hRX (As := [.int (xs (nI ((5 * k) + 1)).toNatClampNeg), .int (xs (nI ((5 * k) + 2)).toNatClampNeg), .int (xs (nI ((5 * k) + 3)).toNatClampNeg), .int (xs (nI ((5 * k) + 4)).toNatClampNeg)]) (rest := []) (x_X0_more l dC dI dA n k σ ab be (xs (nI ((5 * k) + 1)).toNatClampNeg) (xs (nI ((5 * k) + 2)).toNatClampNeg) (xs (nI ((5 * k) + 3)).toNatClampNeg) (xs (nI ((5 * k) + 4)).toNatClampNeg)) xkv__law_86 (RX.recv X.2.2.2.2.2 hRX) rfl rfl ⟨Nat.le_of_ble_eq_true rfl, Nat.le_of_ble_eq_true rfl⟩ hl.1 (Nat.le_of_ble_eq_true rfl) dL_law_686 ⟨by show _ ≤ 601024; omega, by show _ ≤ 7293034; omega⟩) hS (fun q h => h.1) (fun q h => h.1) (fun rc _ H1 locs1 erc hRX1 hz1 hk1 hS1 => ?_)
  refine W.fgtn hn hS1 ?_
  replace hS := hS1.fg
  subst erc
  have hMd := lw_keepM hMd hz112 (fun q h1 h2 h3 => by have := h3.2; omega) hk1
  clear hk1 hz112
  have hz112 := hRX1.sz
  refine lv_aload_n X.1 X.2.1 dL_law_689 rfl (lv_at hl 2 rfl) ?_
  refine lv_aload_n X.1 X.2.1 dL_law_690 rfl (lv_at hl 0 rfl) ?_
  refine lv_iload_n X.1 X.2.1 dL_law_691 rfl (lv_at hl 3 rfl) ?_
  refine lv_iconst (v := nI 1) X.1 X.2.1 dL_law_692 rfl ?_
  refine rn_iadd X.1 X.2.1 dL_law_693 ?_
  refine va_sld X.1 X.2.1 hXs hbl hbA hS (i := nI ((5 * k) + 1)) (vp_in_nI (by omega) (by omega)) dL_law_694 ?_
  refine lv_aload_n X.1 X.2.1 dL_law_695 rfl (lv_at hl 0 rfl) ?_
  refine lv_iload_n X.1 X.2.1 dL_law_696 rfl (lv_at hl 3 rfl) ?_
  refine lv_iconst (v := nI 2) X.1 X.2.1 dL_law_697 rfl ?_
  refine rn_iadd X.1 X.2.1 dL_law_698 ?_
  refine va_sld X.1 X.2.1 hXs hbl hbA hS (i := nI ((5 * k) + 2)) (vp_in_nI (by omega) (by omega)) dL_law_699 ?_
  refine lv_aload_n X.1 X.2.1 dL_law_700 rfl (lv_at hl 0 rfl) ?_
  refine lv_iload_n X.1 X.2.1 dL_law_701 rfl (lv_at hl 3 rfl) ?_
  refine lv_iconst (v := nI 3) X.1 X.2.1 dL_law_702 rfl ?_
  refine rn_iadd X.1 X.2.1 dL_law_703 ?_
  refine va_sld X.1 X.2.1 hXs hbl hbA hS (i := nI ((5 * k) + 3)) (vp_in_nI (by omega) (by omega)) dL_law_704 ?_
  refine lv_aload_n X.1 X.2.1 dL_law_705 rfl (lv_at hl 0 rfl) ?_
  refine lv_iload_n X.1 X.2.1 dL_law_706 rfl (lv_at hl 3 rfl) ?_
  refine lv_iconst (v := nI 4) X.1 X.2.1 dL_law_707 rfl ?_
  refine rn_iadd X.1 X.2.1 dL_law_708 ?_
  refine va_sld X.1 X.2.1 hXs hbl hbA hS (i := nI ((5 * k) + 4)) (vp_in_nI (by omega) (by omega)) dL_law_709 ?_
  refine va_calli (md_runL X hMd (As := [.int (xs (nI ((5 * k) + 1)).toNatClampNeg), .int (xs (nI ((5 * k) + 2)).toNatClampNeg), .int (xs (nI ((5 * k) + 3)).toNatClampNeg), .int (xs (nI ((5 * k) + 4)).toNatClampNeg)]) (rest := [.int ((sp_more σ (xs (nI ((5 * k) + 1)).toNatClampNeg) (xs (nI ((5 * k) + 2)).toNatClampNeg) (xs (nI ((5 * k) + 3)).toNatClampNeg) (xs (nI ((5 * k) + 4)).toNatClampNeg)).1)]) (met_more l dC dI dA (n + 96) σ ab be (xs (nI ((5 * k) + 1)).toNatClampNeg) (xs (nI ((5 * k) + 2)).toNatClampNeg) (xs (nI ((5 * k) + 3)).toNatClampNeg) (xs (nI ((5 * k) + 4)).toNatClampNeg) many e0.1 e0.2 rent e1.1 e1.2) xkv__law_89 rfl rfl rfl ⟨Nat.le_of_ble_eq_true rfl, Nat.le_of_ble_eq_true rfl⟩ hl.1 (Nat.le_of_ble_eq_true rfl) dL_law_710 ⟨by show _ ≤ 601024; omega, by show _ ≤ 7293034; omega⟩) hS (fun q _ h => by have := h.1; omega) (fun q h => by have := h.1; omega) (fun rm u t H2 locs2 et _ hp hB hz2 hk2 hS2 => ?_)
  refine W.fgtn hn hS2 ?_
  replace hS := hS2.fg
  subst et
  refine lv_icmp_eq (tgt := 1168) X.1 X.2.1 dL_law_713 (by decide) (fun _ => ?_) (fun hne => absurd (hp.1.symm) hne)
  refine W.pad (cells2 := 200 + 1400 * (k + 1)) (slots2 := 3300 + 10300 * (k + 1)) (by omega) (by omega) ?_
  have hRX2 := hRX1.kept hz2 hk2
  exact back u ab be _ ls ⟨((hRX2.up (Nat.le_succ k)).q hp.2), hB.1, hS⟩ hl
theorem lwc_18 {p : Program} {l : Launch} {e : Env} {s : State} {m : MethodId} {below : List Frame} {meth : Method} {c : Code} {b L : Nat} {xs : Nat → Int32} {dC : Nat → ClassId} {dI : Nat → Nat → Nat} {dA : Nat → ClassId} {n t_ : Nat} {ad adK adV : Nat → Nat} {fm us sb : Nat} (X : xC dC dI dA p s m c #[Value.ref b] code 4 R_law) (hN : rvN s) (Y : lwK dC dI s n b L xs t_ ad adK adV fm us sb) (k : Nat) (hk : 5 * k + 5 ≤ L) (back : lwB p l e s m below meth c b n dC dI dA k) (σ : mdT) (ab be : Int64) (H : Heap) (ls : Array Slot) (hs_ : lwS dC dI dA n k σ ab be s.heap H) (hl : lv_has ls 4 (lwL b n k)) : W p l e room_1 s m #[Value.ref b] below meth c H [] (200 + 1400 * k) (3300 + 10300 * k) (lw_Z below #[Value.ref b] s) (F0 m 718 ls []) := by
  obtain ⟨hn, hXs, hbn, hL3, hZa, hAl, hZr⟩ := Y
  obtain ⟨hRX, hMd, hS⟩ := hs_
  have hz112 := hRX.sz
  have hbl : b < s.heap.size := hn ▸ hbn
  have hbA : ¬ n ≤ b := by omega
  obtain ⟨many, rent, rd, un, hs, ev, ty, e0, e1, e5, e6, e4, e2, e15⟩ := hRX.nums
  refine lv_aload_n X.1 X.2.1 dL_law_718 rfl (lv_at hl 1 rfl) ?_
  refine lv_aload_n X.1 X.2.1 dL_law_719 rfl (lv_at hl 0 rfl) ?_
  refine lv_iload_n X.1 X.2.1 dL_law_720 rfl (lv_at hl 3 rfl) ?_
  refine lv_iconst (v := nI 1) X.1 X.2.1 dL_law_721 rfl ?_
  refine rn_iadd X.1 X.2.1 dL_law_722 ?_
  refine va_sld X.1 X.2.1 hXs hbl hbA hS (i := nI ((5 * k) + 1)) (vp_in_nI (by omega) (by omega)) dL_law_723 ?_
  refine lv_aload_n X.1 X.2.1 dL_law_724 rfl (lv_at hl 0 rfl) ?_
  refine lv_iload_n X.1 X.2.1 dL_law_725 rfl (lv_at hl 3 rfl) ?_
  refine lv_iconst (v := nI 2) X.1 X.2.1 dL_law_726 rfl ?_
  refine rn_iadd X.1 X.2.1 dL_law_727 ?_
  refine va_sld X.1 X.2.1 hXs hbl hbA hS (i := nI ((5 * k) + 2)) (vp_in_nI (by omega) (by omega)) dL_law_728 ?_
  refine x_cWi (x_runV X hN ⟨hRX, rfl⟩ (As := [.int (xs (nI ((5 * k) + 1)).toNatClampNeg), .int (xs (nI ((5 * k) + 2)).toNatClampNeg)]) (rest := []) (x_X0_changed l dC dI dA n k σ ab be H.size (xs (nI ((5 * k) + 1)).toNatClampNeg) (xs (nI ((5 * k) + 2)).toNatClampNeg)) xkv__law_90 (RX.recv X.2.2.2.2.2 hRX) rfl rfl ⟨Nat.le_of_ble_eq_true rfl, Nat.le_of_ble_eq_true rfl⟩ hl.1 (Nat.le_of_ble_eq_true rfl) dL_law_729 ⟨by show _ ≤ 601024; omega, by show _ ≤ 7293034; omega⟩) hS (fun q h => h.elim (fun h => h.1) (fun h => by have := hS.1; omega)) (fun q h => h.elim (fun h => h.1) (fun h => by have := hS.1; omega)) (fun rc _ H1 locs1 erc hRX1 hz1 hk1 hS1 => ?_)
  refine W.fgtn hn hS1 ?_
  replace hS := hS1.fg
  subst erc
  have hMd := lw_keepM hMd hz112 (fun q h1 h2 h3 => h3.elim (fun h3 => by have := h3.2; omega) (fun h3 => by omega)) hk1
  clear hk1 hz112
  have hz112 := hRX1.sz
  refine lv_aload_n X.1 X.2.1 dL_law_732 rfl (lv_at hl 2 rfl) ?_
  refine lv_aload_n X.1 X.2.1 dL_law_733 rfl (lv_at hl 0 rfl) ?_
  refine lv_iload_n X.1 X.2.1 dL_law_734 rfl (lv_at hl 3 rfl) ?_
  refine lv_iconst (v := nI 1) X.1 X.2.1 dL_law_735 rfl ?_
  refine rn_iadd X.1 X.2.1 dL_law_736 ?_
  refine va_sld X.1 X.2.1 hXs hbl hbA hS (i := nI ((5 * k) + 1)) (vp_in_nI (by omega) (by omega)) dL_law_737 ?_
  refine lv_aload_n X.1 X.2.1 dL_law_738 rfl (lv_at hl 0 rfl) ?_
  refine lv_iload_n X.1 X.2.1 dL_law_739 rfl (lv_at hl 3 rfl) ?_
  refine lv_iconst (v := nI 2) X.1 X.2.1 dL_law_740 rfl ?_
  refine rn_iadd X.1 X.2.1 dL_law_741 ?_
  refine va_sld X.1 X.2.1 hXs hbl hbA hS (i := nI ((5 * k) + 2)) (vp_in_nI (by omega) (by omega)) dL_law_742 ?_
  refine va_calli (md_runL X hMd (As := [.int (xs (nI ((5 * k) + 1)).toNatClampNeg), .int (xs (nI ((5 * k) + 2)).toNatClampNeg)]) (rest := [.int ((sp_changed σ (xs (nI ((5 * k) + 1)).toNatClampNeg) (xs (nI ((5 * k) + 2)).toNatClampNeg)).1)]) (met_changed l dC dI dA (n + 96) σ ab be (xs (nI ((5 * k) + 1)).toNatClampNeg) (xs (nI ((5 * k) + 2)).toNatClampNeg) many e0.1 e0.2 rent e1.1 e1.2) xkv__law_93 rfl rfl rfl ⟨Nat.le_of_ble_eq_true rfl, Nat.le_of_ble_eq_true rfl⟩ hl.1 (Nat.le_of_ble_eq_true rfl) dL_law_743 ⟨by show _ ≤ 601024; omega, by show _ ≤ 7293034; omega⟩) hS (fun q _ h => by have := h.1; omega) (fun q h => by have := h.1; omega) (fun rm u t H2 locs2 et _ hp hB hz2 hk2 hS2 => ?_)
  refine W.fgtn hn hS2 ?_
  replace hS := hS2.fg
  subst et
  refine lv_icmp_eq (tgt := 1168) X.1 X.2.1 dL_law_746 (by decide) (fun _ => ?_) (fun hne => absurd (hp.1.symm) hne)
  refine W.pad (cells2 := 200 + 1400 * (k + 1)) (slots2 := 3300 + 10300 * (k + 1)) (by omega) (by omega) ?_
  have hRX2 := hRX1.kept hz2 hk2
  exact back u ab be _ ls ⟨((hRX2.up (Nat.le_succ k)).q hp.2), hB.1, hS⟩ hl
theorem lwc_19 {p : Program} {l : Launch} {e : Env} {s : State} {m : MethodId} {below : List Frame} {meth : Method} {c : Code} {b L : Nat} {xs : Nat → Int32} {dC : Nat → ClassId} {dI : Nat → Nat → Nat} {dA : Nat → ClassId} {n t_ : Nat} {ad adK adV : Nat → Nat} {fm us sb : Nat} (X : xC dC dI dA p s m c #[Value.ref b] code 4 R_law) (hN : rvN s) (Y : lwK dC dI s n b L xs t_ ad adK adV fm us sb) (k : Nat) (hk : 5 * k + 5 ≤ L) (back : lwB p l e s m below meth c b n dC dI dA k) (σ : mdT) (ab be : Int64) (H : Heap) (ls : Array Slot) (hs_ : lwS dC dI dA n k σ ab be s.heap H) (hl : lv_has ls 4 (lwL b n k)) : W p l e room_1 s m #[Value.ref b] below meth c H [] (200 + 1400 * k) (3300 + 10300 * k) (lw_Z below #[Value.ref b] s) (F0 m 751 ls []) := by
  obtain ⟨hn, hXs, hbn, hL3, hZa, hAl, hZr⟩ := Y
  obtain ⟨hRX, hMd, hS⟩ := hs_
  have hz112 := hRX.sz
  have hbl : b < s.heap.size := hn ▸ hbn
  have hbA : ¬ n ≤ b := by omega
  obtain ⟨many, rent, rd, un, hs, ev, ty, e0, e1, e5, e6, e4, e2, e15⟩ := hRX.nums
  refine lv_aload_n X.1 X.2.1 dL_law_751 rfl (lv_at hl 1 rfl) ?_
  refine lv_aload_n X.1 X.2.1 dL_law_752 rfl (lv_at hl 0 rfl) ?_
  refine lv_iload_n X.1 X.2.1 dL_law_753 rfl (lv_at hl 3 rfl) ?_
  refine lv_iconst (v := nI 1) X.1 X.2.1 dL_law_754 rfl ?_
  refine rn_iadd X.1 X.2.1 dL_law_755 ?_
  refine va_sld X.1 X.2.1 hXs hbl hbA hS (i := nI ((5 * k) + 1)) (vp_in_nI (by omega) (by omega)) dL_law_756 ?_
  refine x_cWi (x_runV X hN hRX (As := [.int (xs (nI ((5 * k) + 1)).toNatClampNeg)]) (rest := []) (x_X0_air l dC dI dA n k σ ab be (xs (nI ((5 * k) + 1)).toNatClampNeg)) xkv__law_94 (RX.recv X.2.2.2.2.2 hRX) rfl rfl ⟨Nat.le_of_ble_eq_true rfl, Nat.le_of_ble_eq_true rfl⟩ hl.1 (Nat.le_of_ble_eq_true rfl) dL_law_757 ⟨by show _ ≤ 601024; omega, by show _ ≤ 7293034; omega⟩) hS (fun q h => h.1) (fun q h => h.1) (fun rc _ H1 locs1 erc hRX1 hz1 hk1 hS1 => ?_)
  refine W.fgtn hn hS1 ?_
  replace hS := hS1.fg
  subst erc
  have hMd := lw_keepM hMd hz112 (fun q h1 h2 h3 => by have := h3.2; omega) hk1
  clear hk1 hz112
  have hz112 := hRX1.sz
  refine lv_aload_n X.1 X.2.1 dL_law_760 rfl (lv_at hl 2 rfl) ?_
  refine lv_aload_n X.1 X.2.1 dL_law_761 rfl (lv_at hl 0 rfl) ?_
  refine lv_iload_n X.1 X.2.1 dL_law_762 rfl (lv_at hl 3 rfl) ?_
  refine lv_iconst (v := nI 1) X.1 X.2.1 dL_law_763 rfl ?_
  refine rn_iadd X.1 X.2.1 dL_law_764 ?_
  refine va_sld X.1 X.2.1 hXs hbl hbA hS (i := nI ((5 * k) + 1)) (vp_in_nI (by omega) (by omega)) dL_law_765 ?_
  refine va_calli (md_runL X hMd (As := [.int (xs (nI ((5 * k) + 1)).toNatClampNeg)]) (rest := [.int ((sp_air σ (xs (nI ((5 * k) + 1)).toNatClampNeg)).1)]) (met_air l dC dI dA (n + 96) σ ab be (xs (nI ((5 * k) + 1)).toNatClampNeg) many e0.1 e0.2) xkv__law_97 rfl rfl rfl ⟨Nat.le_of_ble_eq_true rfl, Nat.le_of_ble_eq_true rfl⟩ hl.1 (Nat.le_of_ble_eq_true rfl) dL_law_766 ⟨by show _ ≤ 601024; omega, by show _ ≤ 7293034; omega⟩) hS (fun q _ h => by have := h.1; omega) (fun q h => by have := h.1; omega) (fun rm u t H2 locs2 et _ hp hB hz2 hk2 hS2 => ?_)
  refine W.fgtn hn hS2 ?_
  replace hS := hS2.fg
  subst et
  refine lv_icmp_eq (tgt := 1168) X.1 X.2.1 dL_law_769 (by decide) (fun _ => ?_) (fun hne => absurd (hp.1.symm) hne)
  refine W.pad (cells2 := 200 + 1400 * (k + 1)) (slots2 := 3300 + 10300 * (k + 1)) (by omega) (by omega) ?_
  have hRX2 := hRX1.kept hz2 hk2
  exact back u ab be _ ls ⟨(by rw [hp.2]; exact (hRX2.up (Nat.le_succ k))), hB.1, hS⟩ hl
theorem lwc_20 {p : Program} {l : Launch} {e : Env} {s : State} {m : MethodId} {below : List Frame} {meth : Method} {c : Code} {b L : Nat} {xs : Nat → Int32} {dC : Nat → ClassId} {dI : Nat → Nat → Nat} {dA : Nat → ClassId} {n t_ : Nat} {ad adK adV : Nat → Nat} {fm us sb : Nat} (X : xC dC dI dA p s m c #[Value.ref b] code 4 R_law) (hN : rvN s) (Y : lwK dC dI s n b L xs t_ ad adK adV fm us sb) (k : Nat) (hk : 5 * k + 5 ≤ L) (back : lwB p l e s m below meth c b n dC dI dA k) (σ : mdT) (ab be : Int64) (H : Heap) (ls : Array Slot) (hs_ : lwS dC dI dA n k σ ab be s.heap H) (hl : lv_has ls 4 (lwL b n k)) : W p l e room_1 s m #[Value.ref b] below meth c H [] (200 + 1400 * k) (3300 + 10300 * k) (lw_Z below #[Value.ref b] s) (F0 m 774 ls []) := by
  obtain ⟨hn, hXs, hbn, hL3, hZa, hAl, hZr⟩ := Y
  obtain ⟨hRX, hMd, hS⟩ := hs_
  have hz112 := hRX.sz
  have hbl : b < s.heap.size := hn ▸ hbn
  have hbA : ¬ n ≤ b := by omega
  obtain ⟨many, rent, rd, un, hs, ev, ty, e0, e1, e5, e6, e4, e2, e15⟩ := hRX.nums
  refine lv_aload_n X.1 X.2.1 dL_law_774 rfl (lv_at hl 1 rfl) ?_
  refine lv_aload_n X.1 X.2.1 dL_law_775 rfl (lv_at hl 0 rfl) ?_
  refine lv_iload_n X.1 X.2.1 dL_law_776 rfl (lv_at hl 3 rfl) ?_
  refine lv_iconst (v := nI 1) X.1 X.2.1 dL_law_777 rfl ?_
  refine rn_iadd X.1 X.2.1 dL_law_778 ?_
  refine va_sld X.1 X.2.1 hXs hbl hbA hS (i := nI ((5 * k) + 1)) (vp_in_nI (by omega) (by omega)) dL_law_779 ?_
  refine lv_aload_n X.1 X.2.1 dL_law_780 rfl (lv_at hl 0 rfl) ?_
  refine lv_iload_n X.1 X.2.1 dL_law_781 rfl (lv_at hl 3 rfl) ?_
  refine lv_iconst (v := nI 2) X.1 X.2.1 dL_law_782 rfl ?_
  refine rn_iadd X.1 X.2.1 dL_law_783 ?_
  refine va_sld X.1 X.2.1 hXs hbl hbA hS (i := nI ((5 * k) + 2)) (vp_in_nI (by omega) (by omega)) dL_law_784 ?_
  refine lv_aload_n X.1 X.2.1 dL_law_785 rfl (lv_at hl 0 rfl) ?_
  refine lv_iload_n X.1 X.2.1 dL_law_786 rfl (lv_at hl 3 rfl) ?_
  refine lv_iconst (v := nI 3) X.1 X.2.1 dL_law_787 rfl ?_
  refine rn_iadd X.1 X.2.1 dL_law_788 ?_
  refine va_sld X.1 X.2.1 hXs hbl hbA hS (i := nI ((5 * k) + 3)) (vp_in_nI (by omega) (by omega)) dL_law_789 ?_
  refine x_cWi (x_runV X hN hRX (As := [.int (xs (nI ((5 * k) + 1)).toNatClampNeg), .int (xs (nI ((5 * k) + 2)).toNatClampNeg), .int (xs (nI ((5 * k) + 3)).toNatClampNeg)]) (rest := []) (x_X0_bring l dC dI dA n k σ ab be (xs (nI ((5 * k) + 1)).toNatClampNeg) (xs (nI ((5 * k) + 2)).toNatClampNeg) (xs (nI ((5 * k) + 3)).toNatClampNeg)) xkv__law_98 (RX.recv X.2.2.2.2.2 hRX) rfl rfl ⟨Nat.le_of_ble_eq_true rfl, Nat.le_of_ble_eq_true rfl⟩ hl.1 (Nat.le_of_ble_eq_true rfl) dL_law_790 ⟨by show _ ≤ 601024; omega, by show _ ≤ 7293034; omega⟩) hS (fun q h => h.1) (fun q h => h.1) (fun rc _ H1 locs1 erc hRX1 hz1 hk1 hS1 => ?_)
  refine W.fgtn hn hS1 ?_
  replace hS := hS1.fg
  subst erc
  have hMd := lw_keepM hMd hz112 (fun q h1 h2 h3 => by have := h3.2; omega) hk1
  clear hk1 hz112
  have hz112 := hRX1.sz
  refine lv_aload_n X.1 X.2.1 dL_law_793 rfl (lv_at hl 2 rfl) ?_
  refine lv_aload_n X.1 X.2.1 dL_law_794 rfl (lv_at hl 0 rfl) ?_
  refine lv_iload_n X.1 X.2.1 dL_law_795 rfl (lv_at hl 3 rfl) ?_
  refine lv_iconst (v := nI 1) X.1 X.2.1 dL_law_796 rfl ?_
  refine rn_iadd X.1 X.2.1 dL_law_797 ?_
  refine va_sld X.1 X.2.1 hXs hbl hbA hS (i := nI ((5 * k) + 1)) (vp_in_nI (by omega) (by omega)) dL_law_798 ?_
  refine lv_aload_n X.1 X.2.1 dL_law_799 rfl (lv_at hl 0 rfl) ?_
  refine lv_iload_n X.1 X.2.1 dL_law_800 rfl (lv_at hl 3 rfl) ?_
  refine lv_iconst (v := nI 2) X.1 X.2.1 dL_law_801 rfl ?_
  refine rn_iadd X.1 X.2.1 dL_law_802 ?_
  refine va_sld X.1 X.2.1 hXs hbl hbA hS (i := nI ((5 * k) + 2)) (vp_in_nI (by omega) (by omega)) dL_law_803 ?_
  refine lv_aload_n X.1 X.2.1 dL_law_804 rfl (lv_at hl 0 rfl) ?_
  refine lv_iload_n X.1 X.2.1 dL_law_805 rfl (lv_at hl 3 rfl) ?_
  refine lv_iconst (v := nI 3) X.1 X.2.1 dL_law_806 rfl ?_
  refine rn_iadd X.1 X.2.1 dL_law_807 ?_
  refine va_sld X.1 X.2.1 hXs hbl hbA hS (i := nI ((5 * k) + 3)) (vp_in_nI (by omega) (by omega)) dL_law_808 ?_
  refine va_calli (md_runL X hMd (As := [.int (xs (nI ((5 * k) + 1)).toNatClampNeg), .int (xs (nI ((5 * k) + 2)).toNatClampNeg), .int (xs (nI ((5 * k) + 3)).toNatClampNeg)]) (rest := [.int ((sp_bring σ (xs (nI ((5 * k) + 1)).toNatClampNeg) (xs (nI ((5 * k) + 2)).toNatClampNeg) (xs (nI ((5 * k) + 3)).toNatClampNeg)).1)]) (met_bring l dC dI dA (n + 96) σ ab be (xs (nI ((5 * k) + 1)).toNatClampNeg) (xs (nI ((5 * k) + 2)).toNatClampNeg) (xs (nI ((5 * k) + 3)).toNatClampNeg) many e0.1 e0.2 rent e1.1 e1.2) xkv__law_101 rfl rfl rfl ⟨Nat.le_of_ble_eq_true rfl, Nat.le_of_ble_eq_true rfl⟩ hl.1 (Nat.le_of_ble_eq_true rfl) dL_law_809 ⟨by show _ ≤ 601024; omega, by show _ ≤ 7293034; omega⟩) hS (fun q _ h => by have := h.1; omega) (fun q h => by have := h.1; omega) (fun rm u t H2 locs2 et _ hp hB hz2 hk2 hS2 => ?_)
  refine W.fgtn hn hS2 ?_
  replace hS := hS2.fg
  subst et
  refine lv_icmp_eq (tgt := 1168) X.1 X.2.1 dL_law_812 (by decide) (fun _ => ?_) (fun hne => absurd (hp.1.symm) hne)
  refine W.pad (cells2 := 200 + 1400 * (k + 1)) (slots2 := 3300 + 10300 * (k + 1)) (by omega) (by omega) ?_
  have hRX2 := hRX1.kept hz2 hk2
  exact back u ab be _ ls ⟨((hRX2.up (Nat.le_succ k)).q hp.2), hB.1, hS⟩ hl
theorem lwc_21 {p : Program} {l : Launch} {e : Env} {s : State} {m : MethodId} {below : List Frame} {meth : Method} {c : Code} {b L : Nat} {xs : Nat → Int32} {dC : Nat → ClassId} {dI : Nat → Nat → Nat} {dA : Nat → ClassId} {n t_ : Nat} {ad adK adV : Nat → Nat} {fm us sb : Nat} (X : xC dC dI dA p s m c #[Value.ref b] code 4 R_law) (hN : rvN s) (Y : lwK dC dI s n b L xs t_ ad adK adV fm us sb) (k : Nat) (hk : 5 * k + 5 ≤ L) (back : lwB p l e s m below meth c b n dC dI dA k) (σ : mdT) (ab be : Int64) (H : Heap) (ls : Array Slot) (hs_ : lwS dC dI dA n k σ ab be s.heap H) (hl : lv_has ls 4 (lwL b n k)) : W p l e room_1 s m #[Value.ref b] below meth c H [] (200 + 1400 * k) (3300 + 10300 * k) (lw_Z below #[Value.ref b] s) (F0 m 817 ls []) := by
  obtain ⟨hn, hXs, hbn, hL3, hZa, hAl, hZr⟩ := Y
  obtain ⟨hRX, hMd, hS⟩ := hs_
  have hz112 := hRX.sz
  have hbl : b < s.heap.size := hn ▸ hbn
  have hbA : ¬ n ≤ b := by omega
  obtain ⟨many, rent, rd, un, hs, ev, ty, e0, e1, e5, e6, e4, e2, e15⟩ := hRX.nums
  refine lv_aload_n X.1 X.2.1 dL_law_817 rfl (lv_at hl 1 rfl) ?_
  refine lv_aload_n X.1 X.2.1 dL_law_818 rfl (lv_at hl 0 rfl) ?_
  refine lv_iload_n X.1 X.2.1 dL_law_819 rfl (lv_at hl 3 rfl) ?_
  refine lv_iconst (v := nI 1) X.1 X.2.1 dL_law_820 rfl ?_
  refine rn_iadd X.1 X.2.1 dL_law_821 ?_
  refine va_sld X.1 X.2.1 hXs hbl hbA hS (i := nI ((5 * k) + 1)) (vp_in_nI (by omega) (by omega)) dL_law_822 ?_
  refine lv_aload_n X.1 X.2.1 dL_law_823 rfl (lv_at hl 0 rfl) ?_
  refine lv_iload_n X.1 X.2.1 dL_law_824 rfl (lv_at hl 3 rfl) ?_
  refine lv_iconst (v := nI 2) X.1 X.2.1 dL_law_825 rfl ?_
  refine rn_iadd X.1 X.2.1 dL_law_826 ?_
  refine va_sld X.1 X.2.1 hXs hbl hbA hS (i := nI ((5 * k) + 2)) (vp_in_nI (by omega) (by omega)) dL_law_827 ?_
  refine lv_aload_n X.1 X.2.1 dL_law_828 rfl (lv_at hl 0 rfl) ?_
  refine lv_iload_n X.1 X.2.1 dL_law_829 rfl (lv_at hl 3 rfl) ?_
  refine lv_iconst (v := nI 3) X.1 X.2.1 dL_law_830 rfl ?_
  refine rn_iadd X.1 X.2.1 dL_law_831 ?_
  refine va_sld X.1 X.2.1 hXs hbl hbA hS (i := nI ((5 * k) + 3)) (vp_in_nI (by omega) (by omega)) dL_law_832 ?_
  refine x_cWi (x_runV X hN hRX (As := [.int (xs (nI ((5 * k) + 1)).toNatClampNeg), .int (xs (nI ((5 * k) + 2)).toNatClampNeg), .int (xs (nI ((5 * k) + 3)).toNatClampNeg)]) (rest := []) (x_X0_left l dC dI dA n k σ ab be (xs (nI ((5 * k) + 1)).toNatClampNeg) (xs (nI ((5 * k) + 2)).toNatClampNeg) (xs (nI ((5 * k) + 3)).toNatClampNeg)) xkv__law_102 (RX.recv X.2.2.2.2.2 hRX) rfl rfl ⟨Nat.le_of_ble_eq_true rfl, Nat.le_of_ble_eq_true rfl⟩ hl.1 (Nat.le_of_ble_eq_true rfl) dL_law_833 ⟨by show _ ≤ 601024; omega, by show _ ≤ 7293034; omega⟩) hS (fun q h => h.1) (fun q h => h.1) (fun rc _ H1 locs1 erc hRX1 hz1 hk1 hS1 => ?_)
  refine W.fgtn hn hS1 ?_
  replace hS := hS1.fg
  subst erc
  have hMd := lw_keepM hMd hz112 (fun q h1 h2 h3 => by have := h3.2; omega) hk1
  clear hk1 hz112
  have hz112 := hRX1.sz
  refine lv_aload_n X.1 X.2.1 dL_law_836 rfl (lv_at hl 2 rfl) ?_
  refine lv_aload_n X.1 X.2.1 dL_law_837 rfl (lv_at hl 0 rfl) ?_
  refine lv_iload_n X.1 X.2.1 dL_law_838 rfl (lv_at hl 3 rfl) ?_
  refine lv_iconst (v := nI 1) X.1 X.2.1 dL_law_839 rfl ?_
  refine rn_iadd X.1 X.2.1 dL_law_840 ?_
  refine va_sld X.1 X.2.1 hXs hbl hbA hS (i := nI ((5 * k) + 1)) (vp_in_nI (by omega) (by omega)) dL_law_841 ?_
  refine lv_aload_n X.1 X.2.1 dL_law_842 rfl (lv_at hl 0 rfl) ?_
  refine lv_iload_n X.1 X.2.1 dL_law_843 rfl (lv_at hl 3 rfl) ?_
  refine lv_iconst (v := nI 2) X.1 X.2.1 dL_law_844 rfl ?_
  refine rn_iadd X.1 X.2.1 dL_law_845 ?_
  refine va_sld X.1 X.2.1 hXs hbl hbA hS (i := nI ((5 * k) + 2)) (vp_in_nI (by omega) (by omega)) dL_law_846 ?_
  refine lv_aload_n X.1 X.2.1 dL_law_847 rfl (lv_at hl 0 rfl) ?_
  refine lv_iload_n X.1 X.2.1 dL_law_848 rfl (lv_at hl 3 rfl) ?_
  refine lv_iconst (v := nI 3) X.1 X.2.1 dL_law_849 rfl ?_
  refine rn_iadd X.1 X.2.1 dL_law_850 ?_
  refine va_sld X.1 X.2.1 hXs hbl hbA hS (i := nI ((5 * k) + 3)) (vp_in_nI (by omega) (by omega)) dL_law_851 ?_
  refine va_calli (md_runL X hMd (As := [.int (xs (nI ((5 * k) + 1)).toNatClampNeg), .int (xs (nI ((5 * k) + 2)).toNatClampNeg), .int (xs (nI ((5 * k) + 3)).toNatClampNeg)]) (rest := [.int ((sp_left σ (xs (nI ((5 * k) + 1)).toNatClampNeg) (xs (nI ((5 * k) + 2)).toNatClampNeg) (xs (nI ((5 * k) + 3)).toNatClampNeg)).1)]) (met_left l dC dI dA (n + 96) σ ab be (xs (nI ((5 * k) + 1)).toNatClampNeg) (xs (nI ((5 * k) + 2)).toNatClampNeg) (xs (nI ((5 * k) + 3)).toNatClampNeg) many e0.1 e0.2 hs e4.1 e4.2) xkv__law_105 rfl rfl rfl ⟨Nat.le_of_ble_eq_true rfl, Nat.le_of_ble_eq_true rfl⟩ hl.1 (Nat.le_of_ble_eq_true rfl) dL_law_852 ⟨by show _ ≤ 601024; omega, by show _ ≤ 7293034; omega⟩) hS (fun q _ h => by have := h.1; omega) (fun q h => by have := h.1; omega) (fun rm u t H2 locs2 et _ hp hB hz2 hk2 hS2 => ?_)
  refine W.fgtn hn hS2 ?_
  replace hS := hS2.fg
  subst et
  refine lv_icmp_eq (tgt := 1168) X.1 X.2.1 dL_law_855 (by decide) (fun _ => ?_) (fun hne => absurd (hp.1.symm) hne)
  refine W.pad (cells2 := 200 + 1400 * (k + 1)) (slots2 := 3300 + 10300 * (k + 1)) (by omega) (by omega) ?_
  have hRX2 := hRX1.kept hz2 hk2
  exact back u ab be _ ls ⟨(by rw [hp.2]; exact (hRX2.up (Nat.le_succ k))), hB.1, hS⟩ hl
theorem lwc_22 {p : Program} {l : Launch} {e : Env} {s : State} {m : MethodId} {below : List Frame} {meth : Method} {c : Code} {b L : Nat} {xs : Nat → Int32} {dC : Nat → ClassId} {dI : Nat → Nat → Nat} {dA : Nat → ClassId} {n t_ : Nat} {ad adK adV : Nat → Nat} {fm us sb : Nat} (X : xC dC dI dA p s m c #[Value.ref b] code 4 R_law) (hN : rvN s) (Y : lwK dC dI s n b L xs t_ ad adK adV fm us sb) (k : Nat) (hk : 5 * k + 5 ≤ L) (back : lwB p l e s m below meth c b n dC dI dA k) (σ : mdT) (ab be : Int64) (H : Heap) (ls : Array Slot) (hs_ : lwS dC dI dA n k σ ab be s.heap H) (hl : lv_has ls 4 (lwL b n k)) : W p l e room_1 s m #[Value.ref b] below meth c H [] (200 + 1400 * k) (3300 + 10300 * k) (lw_Z below #[Value.ref b] s) (F0 m 860 ls []) := by
  obtain ⟨hn, hXs, hbn, hL3, hZa, hAl, hZr⟩ := Y
  obtain ⟨hRX, hMd, hS⟩ := hs_
  have hz112 := hRX.sz
  have hbl : b < s.heap.size := hn ▸ hbn
  have hbA : ¬ n ≤ b := by omega
  obtain ⟨many, rent, rd, un, hs, ev, ty, e0, e1, e5, e6, e4, e2, e15⟩ := hRX.nums
  refine lv_aload_n X.1 X.2.1 dL_law_860 rfl (lv_at hl 1 rfl) ?_
  refine lv_aload_n X.1 X.2.1 dL_law_861 rfl (lv_at hl 0 rfl) ?_
  refine lv_iload_n X.1 X.2.1 dL_law_862 rfl (lv_at hl 3 rfl) ?_
  refine lv_iconst (v := nI 1) X.1 X.2.1 dL_law_863 rfl ?_
  refine rn_iadd X.1 X.2.1 dL_law_864 ?_
  refine va_sld X.1 X.2.1 hXs hbl hbA hS (i := nI ((5 * k) + 1)) (vp_in_nI (by omega) (by omega)) dL_law_865 ?_
  refine lv_aload_n X.1 X.2.1 dL_law_866 rfl (lv_at hl 0 rfl) ?_
  refine lv_iload_n X.1 X.2.1 dL_law_867 rfl (lv_at hl 3 rfl) ?_
  refine lv_iconst (v := nI 2) X.1 X.2.1 dL_law_868 rfl ?_
  refine rn_iadd X.1 X.2.1 dL_law_869 ?_
  refine va_sld X.1 X.2.1 hXs hbl hbA hS (i := nI ((5 * k) + 2)) (vp_in_nI (by omega) (by omega)) dL_law_870 ?_
  refine lv_aload_n X.1 X.2.1 dL_law_871 rfl (lv_at hl 0 rfl) ?_
  refine lv_iload_n X.1 X.2.1 dL_law_872 rfl (lv_at hl 3 rfl) ?_
  refine lv_iconst (v := nI 3) X.1 X.2.1 dL_law_873 rfl ?_
  refine rn_iadd X.1 X.2.1 dL_law_874 ?_
  refine va_sld X.1 X.2.1 hXs hbl hbA hS (i := nI ((5 * k) + 3)) (vp_in_nI (by omega) (by omega)) dL_law_875 ?_
  refine x_cWi (x_runV X hN hRX (As := [.int (xs (nI ((5 * k) + 1)).toNatClampNeg), .int (xs (nI ((5 * k) + 2)).toNatClampNeg), .int (xs (nI ((5 * k) + 3)).toNatClampNeg)]) (rest := []) (x_X0_reading l dC dI dA n k σ ab be (xs (nI ((5 * k) + 1)).toNatClampNeg) (xs (nI ((5 * k) + 2)).toNatClampNeg) (xs (nI ((5 * k) + 3)).toNatClampNeg)) xkv__law_106 (RX.recv X.2.2.2.2.2 hRX) rfl rfl ⟨Nat.le_of_ble_eq_true rfl, Nat.le_of_ble_eq_true rfl⟩ hl.1 (Nat.le_of_ble_eq_true rfl) dL_law_876 ⟨by show _ ≤ 601024; omega, by show _ ≤ 7293034; omega⟩) hS (fun q h => h.1) (fun q h => h.1) (fun rc _ H1 locs1 erc hRX1 hz1 hk1 hS1 => ?_)
  refine W.fgtn hn hS1 ?_
  replace hS := hS1.fg
  subst erc
  have hMd := lw_keepM hMd hz112 (fun q h1 h2 h3 => by have := h3.2; omega) hk1
  clear hk1 hz112
  have hz112 := hRX1.sz
  refine lv_aload_n X.1 X.2.1 dL_law_879 rfl (lv_at hl 2 rfl) ?_
  refine lv_aload_n X.1 X.2.1 dL_law_880 rfl (lv_at hl 0 rfl) ?_
  refine lv_iload_n X.1 X.2.1 dL_law_881 rfl (lv_at hl 3 rfl) ?_
  refine lv_iconst (v := nI 1) X.1 X.2.1 dL_law_882 rfl ?_
  refine rn_iadd X.1 X.2.1 dL_law_883 ?_
  refine va_sld X.1 X.2.1 hXs hbl hbA hS (i := nI ((5 * k) + 1)) (vp_in_nI (by omega) (by omega)) dL_law_884 ?_
  refine lv_aload_n X.1 X.2.1 dL_law_885 rfl (lv_at hl 0 rfl) ?_
  refine lv_iload_n X.1 X.2.1 dL_law_886 rfl (lv_at hl 3 rfl) ?_
  refine lv_iconst (v := nI 2) X.1 X.2.1 dL_law_887 rfl ?_
  refine rn_iadd X.1 X.2.1 dL_law_888 ?_
  refine va_sld X.1 X.2.1 hXs hbl hbA hS (i := nI ((5 * k) + 2)) (vp_in_nI (by omega) (by omega)) dL_law_889 ?_
  refine lv_aload_n X.1 X.2.1 dL_law_890 rfl (lv_at hl 0 rfl) ?_
  refine lv_iload_n X.1 X.2.1 dL_law_891 rfl (lv_at hl 3 rfl) ?_
  refine lv_iconst (v := nI 3) X.1 X.2.1 dL_law_892 rfl ?_
  refine rn_iadd X.1 X.2.1 dL_law_893 ?_
  refine va_sld X.1 X.2.1 hXs hbl hbA hS (i := nI ((5 * k) + 3)) (vp_in_nI (by omega) (by omega)) dL_law_894 ?_
  refine va_calli (md_runL X hMd (As := [.int (xs (nI ((5 * k) + 1)).toNatClampNeg), .int (xs (nI ((5 * k) + 2)).toNatClampNeg), .int (xs (nI ((5 * k) + 3)).toNatClampNeg)]) (rest := [.int ((sp_reading σ (xs (nI ((5 * k) + 1)).toNatClampNeg) (xs (nI ((5 * k) + 2)).toNatClampNeg) (xs (nI ((5 * k) + 3)).toNatClampNeg)).1)]) (met_reading l dC dI dA (n + 96) σ ab be (xs (nI ((5 * k) + 1)).toNatClampNeg) (xs (nI ((5 * k) + 2)).toNatClampNeg) (xs (nI ((5 * k) + 3)).toNatClampNeg) rd e5.1 e5.2) xkv__law_109 rfl rfl rfl ⟨Nat.le_of_ble_eq_true rfl, Nat.le_of_ble_eq_true rfl⟩ hl.1 (Nat.le_of_ble_eq_true rfl) dL_law_895 ⟨by show _ ≤ 601024; omega, by show _ ≤ 7293034; omega⟩) hS (fun q _ h => by have := h.1; omega) (fun q h => by have := h.1; omega) (fun rm u t H2 locs2 et _ hp hB hz2 hk2 hS2 => ?_)
  refine W.fgtn hn hS2 ?_
  replace hS := hS2.fg
  subst et
  refine lv_icmp_eq (tgt := 1168) X.1 X.2.1 dL_law_898 (by decide) (fun _ => ?_) (fun hne => absurd (hp.1.symm) hne)
  refine W.pad (cells2 := 200 + 1400 * (k + 1)) (slots2 := 3300 + 10300 * (k + 1)) (by omega) (by omega) ?_
  have hRX2 := hRX1.kept hz2 hk2
  exact back u ab be _ ls ⟨(by rw [hp.2]; exact (hRX2.up (Nat.le_succ k))), hB.1, hS⟩ hl
theorem lwc_23 {p : Program} {l : Launch} {e : Env} {s : State} {m : MethodId} {below : List Frame} {meth : Method} {c : Code} {b L : Nat} {xs : Nat → Int32} {dC : Nat → ClassId} {dI : Nat → Nat → Nat} {dA : Nat → ClassId} {n t_ : Nat} {ad adK adV : Nat → Nat} {fm us sb : Nat} (X : xC dC dI dA p s m c #[Value.ref b] code 4 R_law) (hN : rvN s) (Y : lwK dC dI s n b L xs t_ ad adK adV fm us sb) (k : Nat) (hk : 5 * k + 5 ≤ L) (back : lwB p l e s m below meth c b n dC dI dA k) (σ : mdT) (ab be : Int64) (H : Heap) (ls : Array Slot) (hs_ : lwS dC dI dA n k σ ab be s.heap H) (hl : lv_has ls 4 (lwL b n k)) : W p l e room_1 s m #[Value.ref b] below meth c H [] (200 + 1400 * k) (3300 + 10300 * k) (lw_Z below #[Value.ref b] s) (F0 m 903 ls []) := by
  obtain ⟨hn, hXs, hbn, hL3, hZa, hAl, hZr⟩ := Y
  obtain ⟨hRX, hMd, hS⟩ := hs_
  have hz112 := hRX.sz
  have hbl : b < s.heap.size := hn ▸ hbn
  have hbA : ¬ n ≤ b := by omega
  obtain ⟨many, rent, rd, un, hs, ev, ty, e0, e1, e5, e6, e4, e2, e15⟩ := hRX.nums
  refine lv_aload_n X.1 X.2.1 dL_law_903 rfl (lv_at hl 1 rfl) ?_
  refine x_cWi (x_runV X hN hRX (As := []) (rest := []) (x_X0_forget l dC dI dA n k σ ab be) xkv__law_110 (RX.recv X.2.2.2.2.2 hRX) rfl rfl ⟨Nat.le_of_ble_eq_true rfl, Nat.le_of_ble_eq_true rfl⟩ hl.1 (Nat.le_of_ble_eq_true rfl) dL_law_904 ⟨by show _ ≤ 601024; omega, by show _ ≤ 7293034; omega⟩) hS (fun q h => h.1) (fun q h => h.1) (fun rc _ H1 locs1 erc hRX1 hz1 hk1 hS1 => ?_)
  refine W.fgtn hn hS1 ?_
  replace hS := hS1.fg
  subst erc
  have hMd := lw_keepM hMd hz112 (fun q h1 h2 h3 => by have := h3.2; omega) hk1
  clear hk1 hz112
  have hz112 := hRX1.sz
  refine lv_aload_n X.1 X.2.1 dL_law_907 rfl (lv_at hl 2 rfl) ?_
  refine va_calli (md_runL X hMd (As := []) (rest := [.int ((sp_forget σ).1)]) (met_forget l dC dI dA (n + 96) σ ab be) xkv__law_113 rfl rfl rfl ⟨Nat.le_of_ble_eq_true rfl, Nat.le_of_ble_eq_true rfl⟩ hl.1 (Nat.le_of_ble_eq_true rfl) dL_law_908 ⟨by show _ ≤ 601024; omega, by show _ ≤ 7293034; omega⟩) hS (fun q _ h => by have := h.1; omega) (fun q h => by have := h.1; omega) (fun rm u t H2 locs2 et _ hp hB hz2 hk2 hS2 => ?_)
  refine W.fgtn hn hS2 ?_
  replace hS := hS2.fg
  subst et
  refine lv_icmp_eq (tgt := 1168) X.1 X.2.1 dL_law_911 (by decide) (fun _ => ?_) (fun hne => absurd (hp.1.symm) hne)
  refine W.pad (cells2 := 200 + 1400 * (k + 1)) (slots2 := 3300 + 10300 * (k + 1)) (by omega) (by omega) ?_
  have hRX2 := hRX1.kept hz2 hk2
  exact back u ab be _ ls ⟨(by rw [hp.2]; exact (hRX2.up (Nat.le_succ k))), hB.1, hS⟩ hl
theorem lwc_24 {p : Program} {l : Launch} {e : Env} {s : State} {m : MethodId} {below : List Frame} {meth : Method} {c : Code} {b L : Nat} {xs : Nat → Int32} {dC : Nat → ClassId} {dI : Nat → Nat → Nat} {dA : Nat → ClassId} {n t_ : Nat} {ad adK adV : Nat → Nat} {fm us sb : Nat} (X : xC dC dI dA p s m c #[Value.ref b] code 4 R_law) (hN : rvN s) (Y : lwK dC dI s n b L xs t_ ad adK adV fm us sb) (k : Nat) (hk : 5 * k + 5 ≤ L) (back : lwB p l e s m below meth c b n dC dI dA k) (σ : mdT) (ab be : Int64) (H : Heap) (ls : Array Slot) (hs_ : lwS dC dI dA n k σ ab be s.heap H) (hl : lv_has ls 4 (lwL b n k)) : W p l e room_1 s m #[Value.ref b] below meth c H [] (200 + 1400 * k) (3300 + 10300 * k) (lw_Z below #[Value.ref b] s) (F0 m 916 ls []) := by
  obtain ⟨hn, hXs, hbn, hL3, hZa, hAl, hZr⟩ := Y
  obtain ⟨hRX, hMd, hS⟩ := hs_
  have hz112 := hRX.sz
  have hbl : b < s.heap.size := hn ▸ hbn
  have hbA : ¬ n ≤ b := by omega
  obtain ⟨many, rent, rd, un, hs, ev, ty, e0, e1, e5, e6, e4, e2, e15⟩ := hRX.nums
  refine lv_aload_n X.1 X.2.1 dL_law_916 rfl (lv_at hl 1 rfl) ?_
  refine lv_aload_n X.1 X.2.1 dL_law_917 rfl (lv_at hl 0 rfl) ?_
  refine lv_iload_n X.1 X.2.1 dL_law_918 rfl (lv_at hl 3 rfl) ?_
  refine lv_iconst (v := nI 1) X.1 X.2.1 dL_law_919 rfl ?_
  refine rn_iadd X.1 X.2.1 dL_law_920 ?_
  refine va_sld X.1 X.2.1 hXs hbl hbA hS (i := nI ((5 * k) + 1)) (vp_in_nI (by omega) (by omega)) dL_law_921 ?_
  refine lv_aload_n X.1 X.2.1 dL_law_922 rfl (lv_at hl 0 rfl) ?_
  refine lv_iload_n X.1 X.2.1 dL_law_923 rfl (lv_at hl 3 rfl) ?_
  refine lv_iconst (v := nI 2) X.1 X.2.1 dL_law_924 rfl ?_
  refine rn_iadd X.1 X.2.1 dL_law_925 ?_
  refine va_sld X.1 X.2.1 hXs hbl hbA hS (i := nI ((5 * k) + 2)) (vp_in_nI (by omega) (by omega)) dL_law_926 ?_
  refine x_cWi (x_runVZ (hz := xZa_ok n t_ ad) X hN ⟨hRX, lw_alV hAl hS⟩ (hZa.kept hS.2.1) (As := [.int (xs (nI ((5 * k) + 1)).toNatClampNeg), .int (xs (nI ((5 * k) + 2)).toNatClampNeg)]) (rest := []) (x_X0_is l dC dI dA n k σ ab be t_ ad (xs (nI ((5 * k) + 1)).toNatClampNeg) (xs (nI ((5 * k) + 2)).toNatClampNeg)) xkv__law_114 (RX.recv X.2.2.2.2.2 hRX) rfl rfl ⟨Nat.le_of_ble_eq_true rfl, Nat.le_of_ble_eq_true rfl⟩ hl.1 (Nat.le_of_ble_eq_true rfl) dL_law_927 ⟨by show _ ≤ 601024; omega, by show _ ≤ 7293034; omega⟩) hS (fun q h => h.1) (fun q h => h.1) (fun rc _ H1 locs1 erc hRX1 hz1 hk1 hS1 => ?_)
  refine W.fgtn hn hS1 ?_
  replace hS := hS1.fg
  subst erc
  have hMd := lw_keepM hMd hz112 (fun q h1 h2 h3 => by have := h3.2; omega) hk1
  clear hk1 hz112
  have hz112 := hRX1.sz
  refine lv_aload_n X.1 X.2.1 dL_law_930 rfl (lv_at hl 2 rfl) ?_
  refine lv_aload_n X.1 X.2.1 dL_law_931 rfl (lv_at hl 0 rfl) ?_
  refine lv_iload_n X.1 X.2.1 dL_law_932 rfl (lv_at hl 3 rfl) ?_
  refine lv_iconst (v := nI 1) X.1 X.2.1 dL_law_933 rfl ?_
  refine rn_iadd X.1 X.2.1 dL_law_934 ?_
  refine va_sld X.1 X.2.1 hXs hbl hbA hS (i := nI ((5 * k) + 1)) (vp_in_nI (by omega) (by omega)) dL_law_935 ?_
  refine lv_aload_n X.1 X.2.1 dL_law_936 rfl (lv_at hl 0 rfl) ?_
  refine lv_iload_n X.1 X.2.1 dL_law_937 rfl (lv_at hl 3 rfl) ?_
  refine lv_iconst (v := nI 2) X.1 X.2.1 dL_law_938 rfl ?_
  refine rn_iadd X.1 X.2.1 dL_law_939 ?_
  refine va_sld X.1 X.2.1 hXs hbl hbA hS (i := nI ((5 * k) + 2)) (vp_in_nI (by omega) (by omega)) dL_law_940 ?_
  refine va_calli (md_runL X hMd (As := [.int (xs (nI ((5 * k) + 1)).toNatClampNeg), .int (xs (nI ((5 * k) + 2)).toNatClampNeg)]) (rest := [.int ((sp_is σ (xs (nI ((5 * k) + 1)).toNatClampNeg) (xs (nI ((5 * k) + 2)).toNatClampNeg)).1)]) (met_is l dC dI dA (n + 96) σ ab be (xs (nI ((5 * k) + 1)).toNatClampNeg) (xs (nI ((5 * k) + 2)).toNatClampNeg) many e0.1 e0.2 rd e5.1 e5.2) xkv__law_117 rfl rfl rfl ⟨Nat.le_of_ble_eq_true rfl, Nat.le_of_ble_eq_true rfl⟩ hl.1 (Nat.le_of_ble_eq_true rfl) dL_law_941 ⟨by show _ ≤ 601024; omega, by show _ ≤ 7293034; omega⟩) hS (fun q _ h => by have := h.1; omega) (fun q h => by have := h.1; omega) (fun rm u t H2 locs2 et _ hp hB hz2 hk2 hS2 => ?_)
  refine W.fgtn hn hS2 ?_
  replace hS := hS2.fg
  subst et
  refine lv_icmp_eq (tgt := 1168) X.1 X.2.1 dL_law_944 (by decide) (fun _ => ?_) (fun hne => absurd (hp.1.symm) hne)
  refine W.pad (cells2 := 200 + 1400 * (k + 1)) (slots2 := 3300 + 10300 * (k + 1)) (by omega) (by omega) ?_
  have hRX2 := hRX1.kept hz2 hk2
  exact back u ab be _ ls ⟨(by rw [hp.2]; exact (hRX2.up (Nat.le_succ k))), hB.1, hS⟩ hl
theorem lwc_25 {p : Program} {l : Launch} {e : Env} {s : State} {m : MethodId} {below : List Frame} {meth : Method} {c : Code} {b L : Nat} {xs : Nat → Int32} {dC : Nat → ClassId} {dI : Nat → Nat → Nat} {dA : Nat → ClassId} {n t_ : Nat} {ad adK adV : Nat → Nat} {fm us sb : Nat} (X : xC dC dI dA p s m c #[Value.ref b] code 4 R_law) (hN : rvN s) (Y : lwK dC dI s n b L xs t_ ad adK adV fm us sb) (k : Nat) (hk : 5 * k + 5 ≤ L) (back : lwB p l e s m below meth c b n dC dI dA k) (σ : mdT) (ab be : Int64) (H : Heap) (ls : Array Slot) (hs_ : lwS dC dI dA n k σ ab be s.heap H) (hl : lv_has ls 4 (lwL b n k)) : W p l e room_1 s m #[Value.ref b] below meth c H [] (200 + 1400 * k) (3300 + 10300 * k) (lw_Z below #[Value.ref b] s) (F0 m 949 ls []) := by
  obtain ⟨hn, hXs, hbn, hL3, hZa, hAl, hZr⟩ := Y
  obtain ⟨hRX, hMd, hS⟩ := hs_
  have hz112 := hRX.sz
  have hbl : b < s.heap.size := hn ▸ hbn
  have hbA : ¬ n ≤ b := by omega
  obtain ⟨many, rent, rd, un, hs, ev, ty, e0, e1, e5, e6, e4, e2, e15⟩ := hRX.nums
  refine lv_aload_n X.1 X.2.1 dL_law_949 rfl (lv_at hl 1 rfl) ?_
  refine lv_aload_n X.1 X.2.1 dL_law_950 rfl (lv_at hl 0 rfl) ?_
  refine lv_iload_n X.1 X.2.1 dL_law_951 rfl (lv_at hl 3 rfl) ?_
  refine lv_iconst (v := nI 1) X.1 X.2.1 dL_law_952 rfl ?_
  refine rn_iadd X.1 X.2.1 dL_law_953 ?_
  refine va_sld X.1 X.2.1 hXs hbl hbA hS (i := nI ((5 * k) + 1)) (vp_in_nI (by omega) (by omega)) dL_law_954 ?_
  refine x_cWi (x_runVZ (hz := xZa_ok n t_ ad) X hN ⟨hRX, lw_alV hAl hS⟩ (hZa.kept hS.2.1) (As := [.int (xs (nI ((5 * k) + 1)).toNatClampNeg)]) (rest := []) (x_X0_look l dC dI dA n k σ ab be t_ ad (xs (nI ((5 * k) + 1)).toNatClampNeg) (by omega)) xkv__law_118 (RX.recv X.2.2.2.2.2 hRX) rfl rfl ⟨Nat.le_of_ble_eq_true rfl, Nat.le_of_ble_eq_true rfl⟩ hl.1 (Nat.le_of_ble_eq_true rfl) dL_law_955 ⟨by show _ ≤ 601024; omega, by show _ ≤ 7293034; omega⟩) hS (fun q h => h.1) (fun q h => h.1) (fun rc _ H1 locs1 erc hRX1 hz1 hk1 hS1 => ?_)
  refine W.fgtn hn hS1 ?_
  replace hS := hS1.fg
  subst erc
  have hMd := lw_keepM hMd hz112 (fun q h1 h2 h3 => by have := h3.2; omega) hk1
  clear hk1 hz112
  have hz112 := hRX1.sz
  refine lv_aload_n X.1 X.2.1 dL_law_958 rfl (lv_at hl 2 rfl) ?_
  refine lv_aload_n X.1 X.2.1 dL_law_959 rfl (lv_at hl 0 rfl) ?_
  refine lv_iload_n X.1 X.2.1 dL_law_960 rfl (lv_at hl 3 rfl) ?_
  refine lv_iconst (v := nI 1) X.1 X.2.1 dL_law_961 rfl ?_
  refine rn_iadd X.1 X.2.1 dL_law_962 ?_
  refine va_sld X.1 X.2.1 hXs hbl hbA hS (i := nI ((5 * k) + 1)) (vp_in_nI (by omega) (by omega)) dL_law_963 ?_
  refine va_calli (md_runL X hMd (As := [.int (xs (nI ((5 * k) + 1)).toNatClampNeg)]) (rest := [.int ((sp_look σ (xs (nI ((5 * k) + 1)).toNatClampNeg)).1)]) (met_look l dC dI dA (n + 96) σ ab be (xs (nI ((5 * k) + 1)).toNatClampNeg) rd e5.1 e5.2 ev e2.1 (by have := e2.2; omega)) xkv__law_121 rfl rfl rfl ⟨Nat.le_of_ble_eq_true rfl, Nat.le_of_ble_eq_true rfl⟩ hl.1 (Nat.le_of_ble_eq_true rfl) dL_law_964 ⟨by show _ ≤ 601024; omega, by show _ ≤ 7293034; omega⟩) hS (fun q _ h => by have := h.1; omega) (fun q h => by have := h.1; omega) (fun rm u t H2 locs2 et _ hp hB hz2 hk2 hS2 => ?_)
  refine W.fgtn hn hS2 ?_
  replace hS := hS2.fg
  subst et
  refine lv_icmp_eq (tgt := 1168) X.1 X.2.1 dL_law_967 (by decide) (fun _ => ?_) (fun hne => absurd (hp.1.symm) hne)
  refine W.pad (cells2 := 200 + 1400 * (k + 1)) (slots2 := 3300 + 10300 * (k + 1)) (by omega) (by omega) ?_
  have hRX2 := hRX1.kept hz2 hk2
  exact back u ab be _ ls ⟨((hRX2.up (Nat.le_succ k)).q hp.2), hB.1, hS⟩ hl
theorem lwc_26 {p : Program} {l : Launch} {e : Env} {s : State} {m : MethodId} {below : List Frame} {meth : Method} {c : Code} {b L : Nat} {xs : Nat → Int32} {dC : Nat → ClassId} {dI : Nat → Nat → Nat} {dA : Nat → ClassId} {n t_ : Nat} {ad adK adV : Nat → Nat} {fm us sb : Nat} (X : xC dC dI dA p s m c #[Value.ref b] code 4 R_law) (hN : rvN s) (Y : lwK dC dI s n b L xs t_ ad adK adV fm us sb) (k : Nat) (hk : 5 * k + 5 ≤ L) (back : lwB p l e s m below meth c b n dC dI dA k) (σ : mdT) (ab be : Int64) (H : Heap) (ls : Array Slot) (hs_ : lwS dC dI dA n k σ ab be s.heap H) (hl : lv_has ls 4 (lwL b n k)) : W p l e room_1 s m #[Value.ref b] below meth c H [] (200 + 1400 * k) (3300 + 10300 * k) (lw_Z below #[Value.ref b] s) (F0 m 972 ls []) := by
  obtain ⟨hn, hXs, hbn, hL3, hZa, hAl, hZr⟩ := Y
  obtain ⟨hRX, hMd, hS⟩ := hs_
  have hz112 := hRX.sz
  have hbl : b < s.heap.size := hn ▸ hbn
  have hbA : ¬ n ≤ b := by omega
  obtain ⟨many, rent, rd, un, hs, ev, ty, e0, e1, e5, e6, e4, e2, e15⟩ := hRX.nums
  refine lv_aload_n X.1 X.2.1 dL_law_972 rfl (lv_at hl 1 rfl) ?_
  refine lv_aload_n X.1 X.2.1 dL_law_973 rfl (lv_at hl 0 rfl) ?_
  refine lv_iload_n X.1 X.2.1 dL_law_974 rfl (lv_at hl 3 rfl) ?_
  refine lv_iconst (v := nI 1) X.1 X.2.1 dL_law_975 rfl ?_
  refine rn_iadd X.1 X.2.1 dL_law_976 ?_
  refine va_sld X.1 X.2.1 hXs hbl hbA hS (i := nI ((5 * k) + 1)) (vp_in_nI (by omega) (by omega)) dL_law_977 ?_
  refine x_cWi (x_runV X hN hRX (As := [.int (xs (nI ((5 * k) + 1)).toNatClampNeg)]) (rest := []) (x_X0_odds l dC dI dA n k σ ab be (xs (nI ((5 * k) + 1)).toNatClampNeg)) xkv__law_122 (RX.recv X.2.2.2.2.2 hRX) rfl rfl ⟨Nat.le_of_ble_eq_true rfl, Nat.le_of_ble_eq_true rfl⟩ hl.1 (Nat.le_of_ble_eq_true rfl) dL_law_978 ⟨by show _ ≤ 601024; omega, by show _ ≤ 7293034; omega⟩) hS (fun q h => h.1) (fun q h => h.1) (fun rc _ H1 locs1 erc hRX1 hz1 hk1 hS1 => ?_)
  refine W.fgtn hn hS1 ?_
  replace hS := hS1.fg
  subst erc
  have hMd := lw_keepM hMd hz112 (fun q h1 h2 h3 => by have := h3.2; omega) hk1
  clear hk1 hz112
  have hz112 := hRX1.sz
  refine lv_aload_n X.1 X.2.1 dL_law_981 rfl (lv_at hl 2 rfl) ?_
  refine lv_aload_n X.1 X.2.1 dL_law_982 rfl (lv_at hl 0 rfl) ?_
  refine lv_iload_n X.1 X.2.1 dL_law_983 rfl (lv_at hl 3 rfl) ?_
  refine lv_iconst (v := nI 1) X.1 X.2.1 dL_law_984 rfl ?_
  refine rn_iadd X.1 X.2.1 dL_law_985 ?_
  refine va_sld X.1 X.2.1 hXs hbl hbA hS (i := nI ((5 * k) + 1)) (vp_in_nI (by omega) (by omega)) dL_law_986 ?_
  refine va_calli (md_runL X hMd (As := [.int (xs (nI ((5 * k) + 1)).toNatClampNeg)]) (rest := [.int ((sp_odds σ ab be (xs (nI ((5 * k) + 1)).toNatClampNeg)).1)]) (met_odds l dC dI dA (n + 96) σ ab be (xs (nI ((5 * k) + 1)).toNatClampNeg) many e0.1 e0.2 rent e1.1 e1.2) xkv__law_125 rfl rfl rfl ⟨Nat.le_of_ble_eq_true rfl, Nat.le_of_ble_eq_true rfl⟩ hl.1 (Nat.le_of_ble_eq_true rfl) dL_law_987 ⟨by show _ ≤ 601024; omega, by show _ ≤ 7293034; omega⟩) hS (fun q _ h => by have := h.1; omega) (fun q h => by have := h.1; omega) (fun rm u t H2 locs2 et _ hp hB hz2 hk2 hS2 => ?_)
  refine W.fgtn hn hS2 ?_
  replace hS := hS2.fg
  subst et
  refine lv_icmp_eq (tgt := 1168) X.1 X.2.1 dL_law_990 (by decide) (fun _ => ?_) (fun hne => absurd (hp.1.symm) hne)
  refine W.pad (cells2 := 200 + 1400 * (k + 1)) (slots2 := 3300 + 10300 * (k + 1)) (by omega) (by omega) ?_
  have hRX2 := hRX1.kept hz2 hk2
  obtain ⟨u1, u2, u3⟩ := u
  obtain ⟨-, hq, hab⟩ := hp
  obtain rfl : u2 = _ := congrArg Prod.fst hab
  obtain rfl : u3 = _ := congrArg Prod.snd hab
  exact back _ _ _ _ ls ⟨(hRX2.q hq).up (Nat.le_succ k), hB.1, hS⟩ hl
theorem lwc_27 {p : Program} {l : Launch} {e : Env} {s : State} {m : MethodId} {below : List Frame} {meth : Method} {c : Code} {b L : Nat} {xs : Nat → Int32} {dC : Nat → ClassId} {dI : Nat → Nat → Nat} {dA : Nat → ClassId} {n t_ : Nat} {ad adK adV : Nat → Nat} {fm us sb : Nat} (X : xC dC dI dA p s m c #[Value.ref b] code 4 R_law) (hN : rvN s) (Y : lwK dC dI s n b L xs t_ ad adK adV fm us sb) (k : Nat) (hk : 5 * k + 5 ≤ L) (back : lwB p l e s m below meth c b n dC dI dA k) (σ : mdT) (ab be : Int64) (H : Heap) (ls : Array Slot) (hs_ : lwS dC dI dA n k σ ab be s.heap H) (hl : lv_has ls 4 (lwL b n k)) : W p l e room_1 s m #[Value.ref b] below meth c H [] (200 + 1400 * k) (3300 + 10300 * k) (lw_Z below #[Value.ref b] s) (F0 m 995 ls []) := by
  obtain ⟨hn, hXs, hbn, hL3, hZa, hAl, hZr⟩ := Y
  obtain ⟨hRX, hMd, hS⟩ := hs_
  have hz112 := hRX.sz
  have hbl : b < s.heap.size := hn ▸ hbn
  have hbA : ¬ n ≤ b := by omega
  obtain ⟨many, rent, rd, un, hs, ev, ty, e0, e1, e5, e6, e4, e2, e15⟩ := hRX.nums
  refine lv_aload_n X.1 X.2.1 dL_law_995 rfl (lv_at hl 1 rfl) ?_
  refine lv_aload_n X.1 X.2.1 dL_law_996 rfl (lv_at hl 0 rfl) ?_
  refine lv_iload_n X.1 X.2.1 dL_law_997 rfl (lv_at hl 3 rfl) ?_
  refine lv_iconst (v := nI 1) X.1 X.2.1 dL_law_998 rfl ?_
  refine rn_iadd X.1 X.2.1 dL_law_999 ?_
  refine va_sld X.1 X.2.1 hXs hbl hbA hS (i := nI ((5 * k) + 1)) (vp_in_nI (by omega) (by omega)) dL_law_1000 ?_
  refine lv_aload_n X.1 X.2.1 dL_law_1001 rfl (lv_at hl 0 rfl) ?_
  refine lv_iload_n X.1 X.2.1 dL_law_1002 rfl (lv_at hl 3 rfl) ?_
  refine lv_iconst (v := nI 2) X.1 X.2.1 dL_law_1003 rfl ?_
  refine rn_iadd X.1 X.2.1 dL_law_1004 ?_
  refine va_sld X.1 X.2.1 hXs hbl hbA hS (i := nI ((5 * k) + 2)) (vp_in_nI (by omega) (by omega)) dL_law_1005 ?_
  refine lv_aload_n X.1 X.2.1 dL_law_1006 rfl (lv_at hl 0 rfl) ?_
  refine lv_iload_n X.1 X.2.1 dL_law_1007 rfl (lv_at hl 3 rfl) ?_
  refine lv_iconst (v := nI 3) X.1 X.2.1 dL_law_1008 rfl ?_
  refine rn_iadd X.1 X.2.1 dL_law_1009 ?_
  refine va_sld X.1 X.2.1 hXs hbl hbA hS (i := nI ((5 * k) + 3)) (vp_in_nI (by omega) (by omega)) dL_law_1010 ?_
  refine x_cWi (x_runV X hN hRX (As := [.int (xs (nI ((5 * k) + 1)).toNatClampNeg), .int (xs (nI ((5 * k) + 2)).toNatClampNeg), .int (xs (nI ((5 * k) + 3)).toNatClampNeg)]) (rest := []) (x_X0_drawn l dC dI dA n k σ ab be (xs (nI ((5 * k) + 1)).toNatClampNeg) (xs (nI ((5 * k) + 2)).toNatClampNeg) (xs (nI ((5 * k) + 3)).toNatClampNeg)) xkv__law_126 (RX.recv X.2.2.2.2.2 hRX) rfl rfl ⟨Nat.le_of_ble_eq_true rfl, Nat.le_of_ble_eq_true rfl⟩ hl.1 (Nat.le_of_ble_eq_true rfl) dL_law_1011 ⟨by show _ ≤ 601024; omega, by show _ ≤ 7293034; omega⟩) hS (fun q h => h.1) (fun q h => h.1) (fun rc _ H1 locs1 erc hRX1 hz1 hk1 hS1 => ?_)
  refine W.fgtn hn hS1 ?_
  replace hS := hS1.fg
  subst erc
  have hMd := lw_keepM hMd hz112 (fun q h1 h2 h3 => by have := h3.2; omega) hk1
  clear hk1 hz112
  have hz112 := hRX1.sz
  refine lv_aload_n X.1 X.2.1 dL_law_1014 rfl (lv_at hl 2 rfl) ?_
  refine lv_aload_n X.1 X.2.1 dL_law_1015 rfl (lv_at hl 0 rfl) ?_
  refine lv_iload_n X.1 X.2.1 dL_law_1016 rfl (lv_at hl 3 rfl) ?_
  refine lv_iconst (v := nI 1) X.1 X.2.1 dL_law_1017 rfl ?_
  refine rn_iadd X.1 X.2.1 dL_law_1018 ?_
  refine va_sld X.1 X.2.1 hXs hbl hbA hS (i := nI ((5 * k) + 1)) (vp_in_nI (by omega) (by omega)) dL_law_1019 ?_
  refine lv_aload_n X.1 X.2.1 dL_law_1020 rfl (lv_at hl 0 rfl) ?_
  refine lv_iload_n X.1 X.2.1 dL_law_1021 rfl (lv_at hl 3 rfl) ?_
  refine lv_iconst (v := nI 2) X.1 X.2.1 dL_law_1022 rfl ?_
  refine rn_iadd X.1 X.2.1 dL_law_1023 ?_
  refine va_sld X.1 X.2.1 hXs hbl hbA hS (i := nI ((5 * k) + 2)) (vp_in_nI (by omega) (by omega)) dL_law_1024 ?_
  refine lv_aload_n X.1 X.2.1 dL_law_1025 rfl (lv_at hl 0 rfl) ?_
  refine lv_iload_n X.1 X.2.1 dL_law_1026 rfl (lv_at hl 3 rfl) ?_
  refine lv_iconst (v := nI 3) X.1 X.2.1 dL_law_1027 rfl ?_
  refine rn_iadd X.1 X.2.1 dL_law_1028 ?_
  refine va_sld X.1 X.2.1 hXs hbl hbA hS (i := nI ((5 * k) + 3)) (vp_in_nI (by omega) (by omega)) dL_law_1029 ?_
  refine va_calli (md_runL X hMd (As := [.int (xs (nI ((5 * k) + 1)).toNatClampNeg), .int (xs (nI ((5 * k) + 2)).toNatClampNeg), .int (xs (nI ((5 * k) + 3)).toNatClampNeg)]) (rest := [.int ((sp_drawn σ (xs (nI ((5 * k) + 1)).toNatClampNeg) (xs (nI ((5 * k) + 2)).toNatClampNeg) (xs (nI ((5 * k) + 3)).toNatClampNeg)).1)]) (met_drawn l dC dI dA (n + 96) σ ab be (xs (nI ((5 * k) + 1)).toNatClampNeg) (xs (nI ((5 * k) + 2)).toNatClampNeg) (xs (nI ((5 * k) + 3)).toNatClampNeg) many e0.1 e0.2 rent e1.1 e1.2) xkv__law_129 rfl rfl rfl ⟨Nat.le_of_ble_eq_true rfl, Nat.le_of_ble_eq_true rfl⟩ hl.1 (Nat.le_of_ble_eq_true rfl) dL_law_1030 ⟨by show _ ≤ 601024; omega, by show _ ≤ 7293034; omega⟩) hS (fun q _ h => by have := h.1; omega) (fun q h => by have := h.1; omega) (fun rm u t H2 locs2 et _ hp hB hz2 hk2 hS2 => ?_)
  refine W.fgtn hn hS2 ?_
  replace hS := hS2.fg
  subst et
  refine lv_icmp_eq (tgt := 1168) X.1 X.2.1 dL_law_1033 (by decide) (fun _ => ?_) (fun hne => absurd (hp.1.symm) hne)
  refine W.pad (cells2 := 200 + 1400 * (k + 1)) (slots2 := 3300 + 10300 * (k + 1)) (by omega) (by omega) ?_
  have hRX2 := hRX1.kept hz2 hk2
  exact back u ab be _ ls ⟨((hRX2.up (Nat.le_succ k)).q hp.2), hB.1, hS⟩ hl
theorem lwc_28 {p : Program} {l : Launch} {e : Env} {s : State} {m : MethodId} {below : List Frame} {meth : Method} {c : Code} {b L : Nat} {xs : Nat → Int32} {dC : Nat → ClassId} {dI : Nat → Nat → Nat} {dA : Nat → ClassId} {n t_ : Nat} {ad adK adV : Nat → Nat} {fm us sb : Nat} (X : xC dC dI dA p s m c #[Value.ref b] code 4 R_law) (hN : rvN s) (Y : lwK dC dI s n b L xs t_ ad adK adV fm us sb) (k : Nat) (hk : 5 * k + 5 ≤ L) (back : lwB p l e s m below meth c b n dC dI dA k) (σ : mdT) (ab be : Int64) (H : Heap) (ls : Array Slot) (hs_ : lwS dC dI dA n k σ ab be s.heap H) (hl : lv_has ls 4 (lwL b n k)) : W p l e room_1 s m #[Value.ref b] below meth c H [] (200 + 1400 * k) (3300 + 10300 * k) (lw_Z below #[Value.ref b] s) (F0 m 1038 ls []) := by
  obtain ⟨hn, hXs, hbn, hL3, hZa, hAl, hZr⟩ := Y
  obtain ⟨hRX, hMd, hS⟩ := hs_
  have hz112 := hRX.sz
  have hbl : b < s.heap.size := hn ▸ hbn
  have hbA : ¬ n ≤ b := by omega
  obtain ⟨many, rent, rd, un, hs, ev, ty, e0, e1, e5, e6, e4, e2, e15⟩ := hRX.nums
  refine lv_aload_n X.1 X.2.1 dL_law_1038 rfl (lv_at hl 1 rfl) ?_
  refine lv_aload_n X.1 X.2.1 dL_law_1039 rfl (lv_at hl 0 rfl) ?_
  refine lv_iload_n X.1 X.2.1 dL_law_1040 rfl (lv_at hl 3 rfl) ?_
  refine lv_iconst (v := nI 1) X.1 X.2.1 dL_law_1041 rfl ?_
  refine rn_iadd X.1 X.2.1 dL_law_1042 ?_
  refine va_sld X.1 X.2.1 hXs hbl hbA hS (i := nI ((5 * k) + 1)) (vp_in_nI (by omega) (by omega)) dL_law_1043 ?_
  refine x_cWl (x_runV X hN hRX (As := [.int (xs (nI ((5 * k) + 1)).toNatClampNeg)]) (rest := []) (x_X0_part l dC dI dA n k σ ab be (xs (nI ((5 * k) + 1)).toNatClampNeg)) xkv__law_130 (RX.recv X.2.2.2.2.2 hRX) rfl rfl ⟨Nat.le_of_ble_eq_true rfl, Nat.le_of_ble_eq_true rfl⟩ hl.1 (Nat.le_of_ble_eq_true rfl) dL_law_1044 ⟨by show _ ≤ 601024; omega, by show _ ≤ 7293034; omega⟩) hS (fun q h => h.1) (fun q h => h.1) (fun rc _ H1 locs1 erc hRX1 hz1 hk1 hS1 => ?_)
  refine W.fgtn hn hS1 ?_
  replace hS := hS1.fg
  subst erc
  have hMd := lw_keepM hMd hz112 (fun q h1 h2 h3 => by have := h3.2; omega) hk1
  clear hk1 hz112
  have hz112 := hRX1.sz
  refine lv_aload_n X.1 X.2.1 dL_law_1047 rfl (lv_at hl 2 rfl) ?_
  refine lv_aload_n X.1 X.2.1 dL_law_1048 rfl (lv_at hl 0 rfl) ?_
  refine lv_iload_n X.1 X.2.1 dL_law_1049 rfl (lv_at hl 3 rfl) ?_
  refine lv_iconst (v := nI 1) X.1 X.2.1 dL_law_1050 rfl ?_
  refine rn_iadd X.1 X.2.1 dL_law_1051 ?_
  refine va_sld X.1 X.2.1 hXs hbl hbA hS (i := nI ((5 * k) + 1)) (vp_in_nI (by omega) (by omega)) dL_law_1052 ?_
  refine va_calll (md_runL X hMd (As := [.int (xs (nI ((5 * k) + 1)).toNatClampNeg)]) (rest := [.long ((sp_part σ ab be (xs (nI ((5 * k) + 1)).toNatClampNeg)).1)]) (met_part l dC dI dA (n + 96) σ ab be (xs (nI ((5 * k) + 1)).toNatClampNeg)) xkv__law_134 rfl rfl rfl ⟨Nat.le_of_ble_eq_true rfl, Nat.le_of_ble_eq_true rfl⟩ hl.1 (Nat.le_of_ble_eq_true rfl) dL_law_1053 ⟨by show _ ≤ 601024; omega, by show _ ≤ 7293034; omega⟩) hS (fun q _ h => by have := h.1; omega) (fun q h => by have := h.1; omega) (fun rm u t H2 locs2 et _ hp hB hz2 hk2 hS2 => ?_)
  refine W.fgtn hn hS2 ?_
  replace hS := hS2.fg
  subst et
  refine rn_lcmp_eq (tgt := 1168) X.1 X.2.1 dL_law_1056 dL_law_1057 (by decide) (fun _ => ?_) (fun hne => absurd (hp.1.symm) hne)
  refine W.pad (cells2 := 200 + 1400 * (k + 1)) (slots2 := 3300 + 10300 * (k + 1)) (by omega) (by omega) ?_
  have hRX2 := hRX1.kept hz2 hk2
  exact back u ab be _ ls ⟨(by rw [hp.2]; exact (hRX2.up (Nat.le_succ k))), hB.1, hS⟩ hl
theorem lwc_29 {p : Program} {l : Launch} {e : Env} {s : State} {m : MethodId} {below : List Frame} {meth : Method} {c : Code} {b L : Nat} {xs : Nat → Int32} {dC : Nat → ClassId} {dI : Nat → Nat → Nat} {dA : Nat → ClassId} {n t_ : Nat} {ad adK adV : Nat → Nat} {fm us sb : Nat} (X : xC dC dI dA p s m c #[Value.ref b] code 4 R_law) (hN : rvN s) (Y : lwK dC dI s n b L xs t_ ad adK adV fm us sb) (k : Nat) (hk : 5 * k + 5 ≤ L) (back : lwB p l e s m below meth c b n dC dI dA k) (σ : mdT) (ab be : Int64) (H : Heap) (ls : Array Slot) (hs_ : lwS dC dI dA n k σ ab be s.heap H) (hl : lv_has ls 4 (lwL b n k)) : W p l e room_1 s m #[Value.ref b] below meth c H [] (200 + 1400 * k) (3300 + 10300 * k) (lw_Z below #[Value.ref b] s) (F0 m 1062 ls []) := by
  obtain ⟨hn, hXs, hbn, hL3, hZa, hAl, hZr⟩ := Y
  obtain ⟨hRX, hMd, hS⟩ := hs_
  have hz112 := hRX.sz
  have hbl : b < s.heap.size := hn ▸ hbn
  have hbA : ¬ n ≤ b := by omega
  obtain ⟨many, rent, rd, un, hs, ev, ty, e0, e1, e5, e6, e4, e2, e15⟩ := hRX.nums
  refine lv_aload_n X.1 X.2.1 dL_law_1062 rfl (lv_at hl 1 rfl) ?_
  refine lv_aload_n X.1 X.2.1 dL_law_1063 rfl (lv_at hl 0 rfl) ?_
  refine lv_iload_n X.1 X.2.1 dL_law_1064 rfl (lv_at hl 3 rfl) ?_
  refine lv_iconst (v := nI 1) X.1 X.2.1 dL_law_1065 rfl ?_
  refine rn_iadd X.1 X.2.1 dL_law_1066 ?_
  refine va_sld X.1 X.2.1 hXs hbl hbA hS (i := nI ((5 * k) + 1)) (vp_in_nI (by omega) (by omega)) dL_law_1067 ?_
  refine x_cWi (x_runV X hN hRX (As := [.int (xs (nI ((5 * k) + 1)).toNatClampNeg)]) (rest := []) (x_X0_image l dC dI dA n k σ ab be (xs (nI ((5 * k) + 1)).toNatClampNeg)) xkv__law_135 (RX.recv X.2.2.2.2.2 hRX) rfl rfl ⟨Nat.le_of_ble_eq_true rfl, Nat.le_of_ble_eq_true rfl⟩ hl.1 (Nat.le_of_ble_eq_true rfl) dL_law_1068 ⟨by show _ ≤ 601024; omega, by show _ ≤ 7293034; omega⟩) hS (fun q h => h.1) (fun q h => h.1) (fun rc _ H1 locs1 erc hRX1 hz1 hk1 hS1 => ?_)
  refine W.fgtn hn hS1 ?_
  replace hS := hS1.fg
  subst erc
  have hMd := lw_keepM hMd hz112 (fun q h1 h2 h3 => h3.2 ⟨h1, h2⟩) hk1
  clear hk1 hz112
  have hz112 := hRX1.sz
  refine lv_aload_n X.1 X.2.1 dL_law_1071 rfl (lv_at hl 2 rfl) ?_
  refine lv_aload_n X.1 X.2.1 dL_law_1072 rfl (lv_at hl 0 rfl) ?_
  refine lv_iload_n X.1 X.2.1 dL_law_1073 rfl (lv_at hl 3 rfl) ?_
  refine lv_iconst (v := nI 1) X.1 X.2.1 dL_law_1074 rfl ?_
  refine rn_iadd X.1 X.2.1 dL_law_1075 ?_
  refine va_sld X.1 X.2.1 hXs hbl hbA hS (i := nI ((5 * k) + 1)) (vp_in_nI (by omega) (by omega)) dL_law_1076 ?_
  refine va_calli (md_runL X hMd (As := [.int (xs (nI ((5 * k) + 1)).toNatClampNeg)]) (rest := [.int ((sp_image σ (xs (nI ((5 * k) + 1)).toNatClampNeg)).1)]) (met_image l dC dI dA (n + 96) σ ab be (xs (nI ((5 * k) + 1)).toNatClampNeg)) xkv__law_138 rfl rfl rfl ⟨Nat.le_of_ble_eq_true rfl, Nat.le_of_ble_eq_true rfl⟩ hl.1 (Nat.le_of_ble_eq_true rfl) dL_law_1077 ⟨by show _ ≤ 601024; omega, by show _ ≤ 7293034; omega⟩) hS (fun q _ h => by have := h.1; omega) (fun q h => by have := h.1; omega) (fun rm u t H2 locs2 et _ hp hB hz2 hk2 hS2 => ?_)
  refine W.fgtn hn hS2 ?_
  replace hS := hS2.fg
  subst et
  refine lv_icmp_eq (tgt := 1168) X.1 X.2.1 dL_law_1080 (by decide) (fun _ => ?_) (fun hne => absurd (hp.1.symm) hne)
  refine W.pad (cells2 := 200 + 1400 * (k + 1)) (slots2 := 3300 + 10300 * (k + 1)) (by omega) (by omega) ?_
  have hRX2 := hRX1.kept hz2 hk2
  exact back u ab be _ ls ⟨(by rw [hp.2]; exact (hRX2.up (Nat.le_succ k))), hB.1, hS⟩ hl
theorem lwc_30 {p : Program} {l : Launch} {e : Env} {s : State} {m : MethodId} {below : List Frame} {meth : Method} {c : Code} {b L : Nat} {xs : Nat → Int32} {dC : Nat → ClassId} {dI : Nat → Nat → Nat} {dA : Nat → ClassId} {n t_ : Nat} {ad adK adV : Nat → Nat} {fm us sb : Nat} (X : xC dC dI dA p s m c #[Value.ref b] code 4 R_law) (hN : rvN s) (Y : lwK dC dI s n b L xs t_ ad adK adV fm us sb) (k : Nat) (hk : 5 * k + 5 ≤ L) (back : lwB p l e s m below meth c b n dC dI dA k) (σ : mdT) (ab be : Int64) (H : Heap) (ls : Array Slot) (hs_ : lwS dC dI dA n k σ ab be s.heap H) (hl : lv_has ls 4 (lwL b n k)) : W p l e room_1 s m #[Value.ref b] below meth c H [] (200 + 1400 * k) (3300 + 10300 * k) (lw_Z below #[Value.ref b] s) (F0 m 1085 ls []) := by
  obtain ⟨hn, hXs, hbn, hL3, hZa, hAl, hZr⟩ := Y
  obtain ⟨hRX, hMd, hS⟩ := hs_
  have hz112 := hRX.sz
  have hbl : b < s.heap.size := hn ▸ hbn
  have hbA : ¬ n ≤ b := by omega
  obtain ⟨many, rent, rd, un, hs, ev, ty, e0, e1, e5, e6, e4, e2, e15⟩ := hRX.nums
  refine lv_aload_n X.1 X.2.1 dL_law_1085 rfl (lv_at hl 1 rfl) ?_
  refine lv_aload_n X.1 X.2.1 dL_law_1086 rfl (lv_at hl 0 rfl) ?_
  refine lv_iload_n X.1 X.2.1 dL_law_1087 rfl (lv_at hl 3 rfl) ?_
  refine lv_iconst (v := nI 1) X.1 X.2.1 dL_law_1088 rfl ?_
  refine rn_iadd X.1 X.2.1 dL_law_1089 ?_
  refine va_sld X.1 X.2.1 hXs hbl hbA hS (i := nI ((5 * k) + 1)) (vp_in_nI (by omega) (by omega)) dL_law_1090 ?_
  refine x_cWi (x_runV X hN hRX (As := [.int (xs (nI ((5 * k) + 1)).toNatClampNeg)]) (rest := []) (x_X0_from l dC dI dA n k σ ab be (xs (nI ((5 * k) + 1)).toNatClampNeg)) xkv__law_139 (RX.recv X.2.2.2.2.2 hRX) rfl rfl ⟨Nat.le_of_ble_eq_true rfl, Nat.le_of_ble_eq_true rfl⟩ hl.1 (Nat.le_of_ble_eq_true rfl) dL_law_1091 ⟨by show _ ≤ 601024; omega, by show _ ≤ 7293034; omega⟩) hS (fun q h => h.1) (fun q h => h.1) (fun rc _ H1 locs1 erc hRX1 hz1 hk1 hS1 => ?_)
  refine W.fgtn hn hS1 ?_
  replace hS := hS1.fg
  subst erc
  have hMd := lw_keepM hMd hz112 (fun q h1 h2 h3 => h3.2 ⟨h1, h2⟩) hk1
  clear hk1 hz112
  have hz112 := hRX1.sz
  refine lv_aload_n X.1 X.2.1 dL_law_1094 rfl (lv_at hl 2 rfl) ?_
  refine lv_aload_n X.1 X.2.1 dL_law_1095 rfl (lv_at hl 0 rfl) ?_
  refine lv_iload_n X.1 X.2.1 dL_law_1096 rfl (lv_at hl 3 rfl) ?_
  refine lv_iconst (v := nI 1) X.1 X.2.1 dL_law_1097 rfl ?_
  refine rn_iadd X.1 X.2.1 dL_law_1098 ?_
  refine va_sld X.1 X.2.1 hXs hbl hbA hS (i := nI ((5 * k) + 1)) (vp_in_nI (by omega) (by omega)) dL_law_1099 ?_
  refine va_calli (md_runL X hMd (As := [.int (xs (nI ((5 * k) + 1)).toNatClampNeg)]) (rest := [.int ((sp_from σ (xs (nI ((5 * k) + 1)).toNatClampNeg)).1)]) (met_from l dC dI dA (n + 96) σ ab be (xs (nI ((5 * k) + 1)).toNatClampNeg)) xkv__law_142 rfl rfl rfl ⟨Nat.le_of_ble_eq_true rfl, Nat.le_of_ble_eq_true rfl⟩ hl.1 (Nat.le_of_ble_eq_true rfl) dL_law_1100 ⟨by show _ ≤ 601024; omega, by show _ ≤ 7293034; omega⟩) hS (fun q _ h => by have := h.1; omega) (fun q h => by have := h.1; omega) (fun rm u t H2 locs2 et _ hp hB hz2 hk2 hS2 => ?_)
  refine W.fgtn hn hS2 ?_
  replace hS := hS2.fg
  subst et
  refine lv_icmp_eq (tgt := 1168) X.1 X.2.1 dL_law_1103 (by decide) (fun _ => ?_) (fun hne => absurd (hp.1.symm) hne)
  refine W.pad (cells2 := 200 + 1400 * (k + 1)) (slots2 := 3300 + 10300 * (k + 1)) (by omega) (by omega) ?_
  have hRX2 := hRX1.kept hz2 hk2
  exact back u ab be _ ls ⟨(by rw [hp.2]; exact (hRX2.up (Nat.le_succ k))), hB.1, hS⟩ hl
theorem lwc_31 {p : Program} {l : Launch} {e : Env} {s : State} {m : MethodId} {below : List Frame} {meth : Method} {c : Code} {b L : Nat} {xs : Nat → Int32} {dC : Nat → ClassId} {dI : Nat → Nat → Nat} {dA : Nat → ClassId} {n t_ : Nat} {ad adK adV : Nat → Nat} {fm us sb : Nat} (X : xC dC dI dA p s m c #[Value.ref b] code 4 R_law) (hN : rvN s) (Y : lwK dC dI s n b L xs t_ ad adK adV fm us sb) (k : Nat) (hk : 5 * k + 5 ≤ L) (back : lwB p l e s m below meth c b n dC dI dA k) (σ : mdT) (ab be : Int64) (H : Heap) (ls : Array Slot) (hs_ : lwS dC dI dA n k σ ab be s.heap H) (hl : lv_has ls 4 (lwL b n k)) : W p l e room_1 s m #[Value.ref b] below meth c H [] (200 + 1400 * k) (3300 + 10300 * k) (lw_Z below #[Value.ref b] s) (F0 m 1108 ls []) := by
  obtain ⟨hn, hXs, hbn, hL3, hZa, hAl, hZr⟩ := Y
  obtain ⟨hRX, hMd, hS⟩ := hs_
  have hz112 := hRX.sz
  have hbl : b < s.heap.size := hn ▸ hbn
  have hbA : ¬ n ≤ b := by omega
  obtain ⟨many, rent, rd, un, hs, ev, ty, e0, e1, e5, e6, e4, e2, e15⟩ := hRX.nums
  refine lv_aload_n X.1 X.2.1 dL_law_1108 rfl (lv_at hl 1 rfl) ?_
  refine lv_aload_n X.1 X.2.1 dL_law_1109 rfl (lv_at hl 0 rfl) ?_
  refine lv_iload_n X.1 X.2.1 dL_law_1110 rfl (lv_at hl 3 rfl) ?_
  refine lv_iconst (v := nI 1) X.1 X.2.1 dL_law_1111 rfl ?_
  refine rn_iadd X.1 X.2.1 dL_law_1112 ?_
  refine va_sld X.1 X.2.1 hXs hbl hbA hS (i := nI ((5 * k) + 1)) (vp_in_nI (by omega) (by omega)) dL_law_1113 ?_
  refine x_cWi (x_runV X hN hRX (As := [.int (xs (nI ((5 * k) + 1)).toNatClampNeg)]) (rest := []) (x_X0_status l dC dI dA n k σ ab be (xs (nI ((5 * k) + 1)).toNatClampNeg)) xkv__law_143 (RX.recv X.2.2.2.2.2 hRX) rfl rfl ⟨Nat.le_of_ble_eq_true rfl, Nat.le_of_ble_eq_true rfl⟩ hl.1 (Nat.le_of_ble_eq_true rfl) dL_law_1114 ⟨by show _ ≤ 601024; omega, by show _ ≤ 7293034; omega⟩) hS (fun q h => h.1) (fun q h => h.1) (fun rc _ H1 locs1 erc hRX1 hz1 hk1 hS1 => ?_)
  refine W.fgtn hn hS1 ?_
  replace hS := hS1.fg
  subst erc
  have hMd := lw_keepM hMd hz112 (fun q h1 h2 h3 => by have := h3.2; omega) hk1
  clear hk1 hz112
  have hz112 := hRX1.sz
  refine lv_aload_n X.1 X.2.1 dL_law_1117 rfl (lv_at hl 2 rfl) ?_
  refine lv_aload_n X.1 X.2.1 dL_law_1118 rfl (lv_at hl 0 rfl) ?_
  refine lv_iload_n X.1 X.2.1 dL_law_1119 rfl (lv_at hl 3 rfl) ?_
  refine lv_iconst (v := nI 1) X.1 X.2.1 dL_law_1120 rfl ?_
  refine rn_iadd X.1 X.2.1 dL_law_1121 ?_
  refine va_sld X.1 X.2.1 hXs hbl hbA hS (i := nI ((5 * k) + 1)) (vp_in_nI (by omega) (by omega)) dL_law_1122 ?_
  refine va_calli (md_runL X hMd (As := [.int (xs (nI ((5 * k) + 1)).toNatClampNeg)]) (rest := [.int ((sp_status σ (xs (nI ((5 * k) + 1)).toNatClampNeg)).1)]) (met_status l dC dI dA (n + 96) σ ab be (xs (nI ((5 * k) + 1)).toNatClampNeg)) xkv__law_146 rfl rfl rfl ⟨Nat.le_of_ble_eq_true rfl, Nat.le_of_ble_eq_true rfl⟩ hl.1 (Nat.le_of_ble_eq_true rfl) dL_law_1123 ⟨by show _ ≤ 601024; omega, by show _ ≤ 7293034; omega⟩) hS (fun q _ h => by have := h.1; omega) (fun q h => by have := h.1; omega) (fun rm u t H2 locs2 et _ hp hB hz2 hk2 hS2 => ?_)
  refine W.fgtn hn hS2 ?_
  replace hS := hS2.fg
  subst et
  refine lv_icmp_eq (tgt := 1168) X.1 X.2.1 dL_law_1126 (by decide) (fun _ => ?_) (fun hne => absurd (hp.1.symm) hne)
  refine W.pad (cells2 := 200 + 1400 * (k + 1)) (slots2 := 3300 + 10300 * (k + 1)) (by omega) (by omega) ?_
  have hRX2 := hRX1.kept hz2 hk2
  exact back u ab be _ ls ⟨(by rw [hp.2]; exact (hRX2.up (Nat.le_succ k))), hB.1, hS⟩ hl
theorem lwc_32 {p : Program} {l : Launch} {e : Env} {s : State} {m : MethodId} {below : List Frame} {meth : Method} {c : Code} {b L : Nat} {xs : Nat → Int32} {dC : Nat → ClassId} {dI : Nat → Nat → Nat} {dA : Nat → ClassId} {n t_ : Nat} {ad adK adV : Nat → Nat} {fm us sb : Nat} (X : xC dC dI dA p s m c #[Value.ref b] code 4 R_law) (hN : rvN s) (Y : lwK dC dI s n b L xs t_ ad adK adV fm us sb) (k : Nat) (hk : 5 * k + 5 ≤ L) (back : lwB p l e s m below meth c b n dC dI dA k) (σ : mdT) (ab be : Int64) (H : Heap) (ls : Array Slot) (hs_ : lwS dC dI dA n k σ ab be s.heap H) (hl : lv_has ls 4 (lwL b n k)) : W p l e room_1 s m #[Value.ref b] below meth c H [] (200 + 1400 * k) (3300 + 10300 * k) (lw_Z below #[Value.ref b] s) (F0 m 1131 ls []) := by
  obtain ⟨hn, hXs, hbn, hL3, hZa, hAl, hZr⟩ := Y
  obtain ⟨hRX, hMd, hS⟩ := hs_
  have hz112 := hRX.sz
  have hbl : b < s.heap.size := hn ▸ hbn
  have hbA : ¬ n ≤ b := by omega
  obtain ⟨many, rent, rd, un, hs, ev, ty, e0, e1, e5, e6, e4, e2, e15⟩ := hRX.nums
  refine lv_aload_n X.1 X.2.1 dL_law_1131 rfl (lv_at hl 1 rfl) ?_
  refine lv_aload_n X.1 X.2.1 dL_law_1132 rfl (lv_at hl 0 rfl) ?_
  refine lv_iload_n X.1 X.2.1 dL_law_1133 rfl (lv_at hl 3 rfl) ?_
  refine lv_iconst (v := nI 1) X.1 X.2.1 dL_law_1134 rfl ?_
  refine rn_iadd X.1 X.2.1 dL_law_1135 ?_
  refine va_sld X.1 X.2.1 hXs hbl hbA hS (i := nI ((5 * k) + 1)) (vp_in_nI (by omega) (by omega)) dL_law_1136 ?_
  refine x_cWi (x_runV X hN hRX (As := [.int (xs (nI ((5 * k) + 1)).toNatClampNeg)]) (rest := []) (x_X0_count l dC dI dA n k σ ab be (xs (nI ((5 * k) + 1)).toNatClampNeg)) xkv__law_147 (RX.recv X.2.2.2.2.2 hRX) rfl rfl ⟨Nat.le_of_ble_eq_true rfl, Nat.le_of_ble_eq_true rfl⟩ hl.1 (Nat.le_of_ble_eq_true rfl) dL_law_1137 ⟨by show _ ≤ 601024; omega, by show _ ≤ 7293034; omega⟩) hS (fun q h => h.1) (fun q h => h.1) (fun rc _ H1 locs1 erc hRX1 hz1 hk1 hS1 => ?_)
  refine W.fgtn hn hS1 ?_
  replace hS := hS1.fg
  subst erc
  have hMd := lw_keepM hMd hz112 (fun q h1 h2 h3 => by have := h3.2; omega) hk1
  clear hk1 hz112
  have hz112 := hRX1.sz
  refine lv_aload_n X.1 X.2.1 dL_law_1140 rfl (lv_at hl 2 rfl) ?_
  refine lv_aload_n X.1 X.2.1 dL_law_1141 rfl (lv_at hl 0 rfl) ?_
  refine lv_iload_n X.1 X.2.1 dL_law_1142 rfl (lv_at hl 3 rfl) ?_
  refine lv_iconst (v := nI 1) X.1 X.2.1 dL_law_1143 rfl ?_
  refine rn_iadd X.1 X.2.1 dL_law_1144 ?_
  refine va_sld X.1 X.2.1 hXs hbl hbA hS (i := nI ((5 * k) + 1)) (vp_in_nI (by omega) (by omega)) dL_law_1145 ?_
  refine va_calli (md_runL X hMd (As := [.int (xs (nI ((5 * k) + 1)).toNatClampNeg)]) (rest := [.int ((sp_count σ (xs (nI ((5 * k) + 1)).toNatClampNeg)).1)]) (met_count l dC dI dA (n + 96) σ ab be (xs (nI ((5 * k) + 1)).toNatClampNeg) many e0.1 e0.2) xkv__law_150 rfl rfl rfl ⟨Nat.le_of_ble_eq_true rfl, Nat.le_of_ble_eq_true rfl⟩ hl.1 (Nat.le_of_ble_eq_true rfl) dL_law_1146 ⟨by show _ ≤ 601024; omega, by show _ ≤ 7293034; omega⟩) hS (fun q _ h => by have := h.1; omega) (fun q h => by have := h.1; omega) (fun rm u t H2 locs2 et _ hp hB hz2 hk2 hS2 => ?_)
  refine W.fgtn hn hS2 ?_
  replace hS := hS2.fg
  subst et
  refine lv_icmp_eq (tgt := 1168) X.1 X.2.1 dL_law_1149 (by decide) (fun _ => ?_) (fun hne => absurd (hp.1.symm) hne)
  refine W.pad (cells2 := 200 + 1400 * (k + 1)) (slots2 := 3300 + 10300 * (k + 1)) (by omega) (by omega) ?_
  have hRX2 := hRX1.kept hz2 hk2
  exact back u ab be _ ls ⟨(by rw [hp.2]; exact (hRX2.up (Nat.le_succ k))), hB.1, hS⟩ hl
theorem lwc_33 {p : Program} {l : Launch} {e : Env} {s : State} {m : MethodId} {below : List Frame} {meth : Method} {c : Code} {b L : Nat} {xs : Nat → Int32} {dC : Nat → ClassId} {dI : Nat → Nat → Nat} {dA : Nat → ClassId} {n t_ : Nat} {ad adK adV : Nat → Nat} {fm us sb : Nat} (X : xC dC dI dA p s m c #[Value.ref b] code 4 R_law) (hN : rvN s) (Y : lwK dC dI s n b L xs t_ ad adK adV fm us sb) (k : Nat) (hk : 5 * k + 5 ≤ L) (back : lwB p l e s m below meth c b n dC dI dA k) (σ : mdT) (ab be : Int64) (H : Heap) (ls : Array Slot) (hs_ : lwS dC dI dA n k σ ab be s.heap H) (hl : lv_has ls 4 (lwL b n k)) : W p l e room_1 s m #[Value.ref b] below meth c H [] (200 + 1400 * k) (3300 + 10300 * k) (lw_Z below #[Value.ref b] s) (F0 m 1154 ls []) := by
  obtain ⟨hn, hXs, hbn, hL3, hZa, hAl, hZr⟩ := Y
  obtain ⟨hRX, hMd, hS⟩ := hs_
  have hz112 := hRX.sz
  have hbl : b < s.heap.size := hn ▸ hbn
  have hbA : ¬ n ≤ b := by omega
  obtain ⟨many, rent, rd, un, hs, ev, ty, e0, e1, e5, e6, e4, e2, e15⟩ := hRX.nums
  refine lv_aload_n X.1 X.2.1 dL_law_1154 rfl (lv_at hl 1 rfl) ?_
  refine x_cSle (x_runV X hN hRX (As := []) (rest := []) (x_X0_digest l dC dI dA n k σ ab be) xkv__law_151 (RX.recv X.2.2.2.2.2 hRX) rfl rfl ⟨Nat.le_of_ble_eq_true rfl, Nat.le_of_ble_eq_true rfl⟩ hl.1 (Nat.le_of_ble_eq_true rfl) dL_law_1155 ⟨by show _ ≤ 601024; omega, by show _ ≤ 7293034; omega⟩) ?_
  refine lv_aload_n X.1 X.2.1 dL_law_1158 rfl (lv_at hl 2 rfl) ?_
  refine x_cSle (md_runL X hMd (As := []) (rest := [.long (sp_digest σ ab be)]) (met_digest l dC dI dA (n + 96) σ ab be many e0.1 e0.2 rent e1.1 e1.2 hs e4.1 e4.2 rd e5.1 e5.2) xkv__law_155 rfl rfl rfl ⟨Nat.le_of_ble_eq_true rfl, Nat.le_of_ble_eq_true rfl⟩ hl.1 (Nat.le_of_ble_eq_true rfl) dL_law_1159 ⟨by show _ ≤ 601024; omega, by show _ ≤ 7293034; omega⟩) ?_
  refine rn_lcmp_eq (tgt := 1168) X.1 X.2.1 dL_law_1162 dL_law_1163 (by decide) (fun _ => ?_) (fun hne => absurd rfl hne)
  refine W.pad (cells2 := 200 + 1400 * (k + 1)) (slots2 := 3300 + 10300 * (k + 1)) (by omega) (by omega) ?_
  exact back σ ab be _ ls ⟨hRX.up (Nat.le_succ k), hMd, hS⟩ hl
