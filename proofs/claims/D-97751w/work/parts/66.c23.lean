set_option maxRecDepth 100000
/-! the JDK's String, at the reader's words -/
theorem xkv_J2_335 : xKV RJ2 yJ2_coder cJ2_coder 1 (some .byte) 335 0 := ⟨q533, q534, q535, q76, q536, by decide +kernel⟩
theorem xks_J2_1059 : xKS RJ2 yJ4_checkIndex cJ4_checkIndex 3 (some .int) 1059 3 := ⟨q555, q556, q78, q557, by decide +kernel⟩
theorem xks_J3_9 : xKS RJ3 yJ2_checkIndex cJ2_checkIndex 2 none 9 2 := ⟨q550, q551, q76, q552, by decide +kernel⟩
theorem xkv_J2_492 : xKV RJ2 yJ2_isLatin1 cJ2_isLatin1 1 (some .boolean) 492 0 := ⟨q543, q544, q545, q76, q546, by decide +kernel⟩
theorem xks_J2_495 : xKS RJ2 yJ3_charAt cJ3_charAt 2 (some .char) 495 2 := ⟨q547, q548, q77, q549, by decide +kernel⟩
/-- the four words that the reader knows -/
def lenW : List Nat := [4, 4, 6, 5]
def bytW : List (List Int32) := [[115, 104, 111, 112], [118, 105, 101, 119], [114, 101, 110, 116, 101, 114], [116, 104, 105, 110, 103]]
def chW (i k : Nat) : Int32 := (bytW.getD i []).getD k 0
def lnW (i : Nat) : Nat := lenW.getD i 0
def idW (i : Nat) : Nat := [84, 90, 107, 116].getD i 0
def txW (i : Nat) : String := ["shop", "view", "renter", "thing"].getD i ""
theorem lnW_b : ∀ i, i < 4 → 4 ≤ lnW i ∧ lnW i ≤ 6 := by decide +kernel
theorem chW_c : ∀ i, i < 4 → ∀ k, k < lnW i → ((chW i k &&& nI 255).toUInt32 % 65536).toInt32 = chW i k := by
  intro i hi k hk
  have hb := lnW_b i hi
  have h : ∀ i, i < 4 → ∀ k, k < 6 → ((chW i k &&& nI 255).toUInt32 % 65536).toInt32 = chW i k := by decide +kernel
  exact h i hi k (by omega)
theorem chW_n : ∀ i, i < 4 → ∀ k, k < lnW i → narrow .char (.int (chW i k)) = .int (chW i k) := by
  intro i hi k hk
  have hb := lnW_b i hi
  have h : ∀ i, i < 4 → ∀ k, k < 6 → ((chW i k).toUInt32 % 65536).toInt32 = chW i k := by decide +kernel
  exact congrArg Value.int (h i hi k (by omega))
theorem lnW_s : ∀ i, i < 4 → nI (lnW i) >>> (0 &&& 31 : Int32) = nI (lnW i) := by decide +kernel
abbrev xZst (C f d : String) (v : Value) (n : Nat) (U : State) (H : Heap) : Prop := va_Z C f d v (fun q => n ≤ q) U H
/-- what the reader's words and the JDK's statics hold -/
def xZr (n : Nat) (adK adV : Nat → Nat) (fm us sb : Nat) (U : State) (H : Heap) : Prop :=
  vk_S 4 lenW bytW adK adV (fun q => n ≤ q) U H ∧ xZst RJ2 "COMPACT_STRINGS" "Z" (.int (nI 1)) n U H ∧ xZst RJ4 "SIOOBE_FORMATTER" "Ljava/util/function/BiFunction;" (.ref fm) n U H ∧ xZst RJ0 "UNASSIGNED_STACK" "[Ljava/lang/StackTraceElement;" (.ref us) n U H ∧ xZst RJ0 "SUPPRESSED_SENTINEL" "Ljava/util/List;" (.ref sb) n U H ∧ ∀ i, i < 4 → vk_R RX3 (idW i) (txW i) (adK i) U
theorem xZr_w (n : Nat) (adK adV : Nat → Nat) (fm us sb : Nat) : zW (xZr n adK adV fm us sb) :=
  ⟨fun u U H hW h => ⟨h.1.moved hW.alike, h.2.1.moved hW.alike, h.2.2.1.moved hW.alike, h.2.2.2.1.moved hW.alike, h.2.2.2.2.1.moved hW.alike, fun i hi => (h.2.2.2.2.2 i hi).warm hW⟩,
   fun u U H e h => by
    have hv : u.vm.Alike U.vm := e ▸ Vm.Alike.refl _
    exact ⟨h.1.moved hv, h.2.1.moved hv, h.2.2.1.moved hv, h.2.2.2.1.moved hv, h.2.2.2.2.1.moved hv, fun i hi => (h.2.2.2.2.2 i hi).same e⟩⟩
theorem xZr.kept {n : Nat} {adK adV : Nat → Nat} {fm us sb : Nat} {U : State} {H H1 : Heap} (h : xZr n adK adV fm us sb U H) (hq : ∀ a : Nat, a < H.size → ¬ n ≤ a → H1[a]? = H[a]?) : xZr n adK adV fm us sb U H1 :=
  ⟨h.1.kept hq, h.2.1.kept hq, h.2.2.1.kept hq, h.2.2.2.1.kept hq, h.2.2.2.2.1.kept hq, h.2.2.2.2.2⟩
section XST
variable {p : Program} {l : Launch} {e : Env} {R : Room} {s : State} {m : MethodId} {args : Array Value} {below : List Frame} {meth : Method} {c : Code} {H : Heap} {locs : List Loc} {cells slots mc ms : Nat} {Q : State → Prop} {cc : ByteArray} {pc nL : Nat} {ls : Array Slot} {rest st0 : List Value} {a : Array Value}
theorem x_cSv {A : Nat → Prop} (hr : va_Run p l e R s m args below meth c H locs cells slots 0 0 (F0 m pc ls st0) rest (va_Sv (fun _ => True) a) (fun _ => False)) (kk : W p l e R s m args below meth c H locs cells slots Q (F0 m (pc + 3) ls rest)) : W p l e R s m args below meth c H locs cells slots Q (F0 m pc ls st0) := by
  intro T hT X
  obtain ⟨v, st₀, t, T', L, h0, X', hL, e1, e2, ⟨hv, -, hh⟩, st⟩ := hr T hT X
  cases hv
  have hLn : L = [] := List.eq_nil_iff_forall_not_mem.mpr fun q hq => hL q hq
  subst hLn
  rw [List.append_nil] at X'
  obtain ⟨t2, a1, b1⟩ := kk T' (by rw [e1, hh, h0]) X'
  exact ⟨t2, st t2 a1, b1⟩
end XST
theorem st_J2_coder (l : Launch) (dC : Nat → ClassId) (dI : Nat → Nat → Nat) (dA : Nat → ClassId) (n : Nat) (adK adV : Nat → Nat) (fm us sb : Nat) (i : Nat) (hi : i < 4) : Met l yJ2_coder (ws_ yJ2_coder cJ2_coder 1 (some .byte)) { frames := 1, cells := 0, slots := 0, locals := 60 } (xPz dC dI dA (xZr n adK adV fm us sb) (fun _ => True) [.ref (adK i)]) (vp_Si (fun r_ => r_ = (nI 0))) 0 0 (fun _ => False) := by
  refine x_inZ (by decide) rfl (Nat.le_of_ble_eq_true rfl) (lv := [(0, .ref (adK i))]) rfl ?_
  intro p e s m below meth c X hN hnm hr hlk _ hZ ls hl
  have hS : va_S (fun q => n ≤ q) s.heap s.heap [] := va_S.rf
  have hb6 := lnW_b i hi
  refine va_gets X.1 X.2.1 hZ.2.1 hS X.2.2.2.1 (X.2.2.2.2.1 _ q537) (fun _ h => h) dJ2_coder_0 ?_
  refine rn_if_eq (tgt := 13) X.1 X.2.1 (by decide) dJ2_coder_3 (by decide) (fun c_3 => ?_) (fun c_3 => ?_)
  · exact absurd c_3 (by decide)
  · refine lv_aload_n X.1 X.2.1 dJ2_coder_6 rfl (lv_at hl 0 rfl) ?_
    refine vk_getf X.1 X.2.1 (hZ.1.1 i hi).2.1 hS X.2.2.2.1 (X.2.2.2.2.1 _ q1342) (fun _ h => h) dJ2_coder_7 ?_
    refine lv_goto (tgt := 14) X.1 X.2.1 dJ2_coder_10 (by decide) ?_
    exact W.zret X.1 X.2.1 hr rfl (fun t ht _ => ⟨_, rfl, rfl, ht⟩) (fun q h => by cases h) dJ2_coder_14 hlk
theorem st_J2_isLatin1 (l : Launch) (dC : Nat → ClassId) (dI : Nat → Nat → Nat) (dA : Nat → ClassId) (n : Nat) (adK adV : Nat → Nat) (fm us sb : Nat) (i : Nat) (hi : i < 4) : Met l yJ2_isLatin1 (ws_ yJ2_isLatin1 cJ2_isLatin1 1 (some .boolean)) { frames := 1, cells := 0, slots := 0, locals := 60 } (xPz dC dI dA (xZr n adK adV fm us sb) (fun _ => True) [.ref (adK i)]) (vp_Si (fun r_ => r_ = (nI 1))) 0 0 (fun _ => False) := by
  refine x_inZ (by decide) rfl (Nat.le_of_ble_eq_true rfl) (lv := [(0, .ref (adK i))]) rfl ?_
  intro p e s m below meth c X hN hnm hr hlk _ hZ ls hl
  have hS : va_S (fun q => n ≤ q) s.heap s.heap [] := va_S.rf
  have hb6 := lnW_b i hi
  refine va_gets X.1 X.2.1 hZ.2.1 hS X.2.2.2.1 (X.2.2.2.2.1 _ q537) (fun _ h => h) dJ2_isLatin1_0 ?_
  refine rn_if_eq (tgt := 17) X.1 X.2.1 (by decide) dJ2_isLatin1_3 (by decide) (fun c_3 => ?_) (fun c_3 => ?_)
  · exact absurd c_3 (by decide)
  · refine lv_aload_n X.1 X.2.1 dJ2_isLatin1_6 rfl (lv_at hl 0 rfl) ?_
    refine vk_getf X.1 X.2.1 (hZ.1.1 i hi).2.1 hS X.2.2.2.1 (X.2.2.2.2.1 _ q1342) (fun _ h => h) dJ2_isLatin1_7 ?_
    refine rn_if_ne (tgt := 17) X.1 X.2.1 (by decide) dJ2_isLatin1_10 (by decide) (fun c_10 => ?_) (fun c_10 => ?_)
    · exact absurd c_10 (by decide)
    · refine lv_iconst (v := nI 1) X.1 X.2.1 dJ2_isLatin1_13 rfl ?_
      refine lv_goto (tgt := 18) X.1 X.2.1 dJ2_isLatin1_14 (by decide) ?_
      exact rv_rz X.1 X.2.1 hr hlk rfl dJ2_isLatin1_18 rfl
theorem st_J2_length (l : Launch) (dC : Nat → ClassId) (dI : Nat → Nat → Nat) (dA : Nat → ClassId) (n : Nat) (adK adV : Nat → Nat) (fm us sb : Nat) (i : Nat) (hi : i < 4) : Met l yJ2_length (ws_ yJ2_length cJ2_length 1 (some .int)) { frames := 2, cells := 0, slots := 0, locals := 120 } (xPz dC dI dA (xZr n adK adV fm us sb) (fun _ => True) [.ref (adK i)]) (vp_Si (fun r_ => r_ = (nI (lnW i)))) 0 0 (fun _ => False) := by
  refine x_inZ (by decide) rfl (Nat.le_of_ble_eq_true rfl) (lv := [(0, .ref (adK i))]) rfl ?_
  intro p e s m below meth c X hN hnm hr hlk _ hZ ls hl
  have hS : va_S (fun q => n ≤ q) s.heap s.heap [] := va_S.rf
  have hb6 := lnW_b i hi
  refine lv_aload_n X.1 X.2.1 dJ2_length_0 rfl (lv_at hl 0 rfl) ?_
  refine vk_getf X.1 X.2.1 (hZ.1.1 i hi).2.2.1 hS X.2.2.2.1 (X.2.2.2.2.1 _ q1341) (fun _ h => h) dJ2_length_1 ?_
  refine va_tlen X.1 X.2.1 (hZ.1.1 i hi).2.2.2 hS (v := nI (lnW i)) rfl dJ2_length_4 ?_
  refine lv_aload_n X.1 X.2.1 dJ2_length_5 rfl (lv_at hl 0 rfl) ?_
  refine x_cSe (x_runVW (xZr_w n adK adV fm us sb) X hN trivial hZ (As := []) (rest := [.int (nI (lnW i))]) (st_J2_coder l dC dI dA n adK adV fm us sb i hi) xkv_J2_335 (vk_recv hZ.1 hi hS) rfl rfl ⟨Nat.le_of_ble_eq_true rfl, Nat.le_of_ble_eq_true rfl⟩ hl.1 (Nat.le_of_ble_eq_true rfl) dJ2_length_6 ⟨Nat.le_of_ble_eq_true rfl, Nat.le_of_ble_eq_true rfl⟩) ?_
  refine lv_ishr X.1 X.2.1 dJ2_length_9 ?_
  exact rv_ri X.1 X.2.1 hr hlk dJ2_length_10 (lnW_s i hi)
theorem st_J4_checkIndex (l : Launch) (k nn fm : Nat) (hk : k < nn) (hn : nn < 2 ^ 31) : Met l yJ4_checkIndex (ws_ yJ4_checkIndex cJ4_checkIndex 3 (some .int)) { frames := 1, cells := 0, slots := 0, locals := 60 } (fun v_ _ => v_ = [.int (nI k), .int (nI nn), .ref fm].toArray) (vp_Si (fun r_ => r_ = (nI k))) 0 0 (fun _ => False) := by
  refine rv_inS (by decide) (Nat.le_of_ble_eq_true rfl) (lv := [(0, .int (nI k)), (1, .int (nI nn)), (2, .ref fm)]) rfl ?_
  intro p e s m below meth c hx hb hml hown hts hr hlk ls hl
  refine lv_iload_n hx hb dJ4_checkIndex_0 rfl (lv_at hl 0 rfl) ?_
  refine lv_if_lt (tgt := 9) hx hb dJ4_checkIndex_1 (by decide) (fun (c_1 : nI k < 0) => ?_) (fun (c_1 : ¬ nI k < 0) => ?_)
  · exact absurd c_1 (nI_pos (by omega))
  · refine lv_iload_n hx hb dJ4_checkIndex_4 rfl (lv_at hl 0 rfl) ?_
    refine lv_iload_n hx hb dJ4_checkIndex_5 rfl (lv_at hl 1 rfl) ?_
    refine rn_icmp_lt (tgt := 16) hx hb (by omega) (by omega) dJ4_checkIndex_6 (by decide) (fun c_6 => ?_) (fun c_6 => ?_)
    · refine lv_iload_n hx hb dJ4_checkIndex_16 rfl (lv_at hl 0 rfl) ?_
      exact rv_ri hx hb hr hlk dJ4_checkIndex_17 rfl
    · omega
theorem st_J2_checkIndex (l : Launch) (dC : Nat → ClassId) (dI : Nat → Nat → Nat) (dA : Nat → ClassId) (n : Nat) (adK adV : Nat → Nat) (fm us sb : Nat) (i : Nat) (hi : i < 4) (k : Nat) (hk : k < lnW i) : Met l yJ2_checkIndex (ws_ yJ2_checkIndex cJ2_checkIndex 2 none) { frames := 2, cells := 0, slots := 0, locals := 120 } (xPz dC dI dA (xZr n adK adV fm us sb) (fun _ => True) [.int (nI k), .int (nI (lnW i))]) (va_Sv (fun _ => True)) 0 0 (fun _ => False) := by
  refine x_inZ (by decide) rfl (Nat.le_of_ble_eq_true rfl) (lv := [(0, .int (nI k)), (1, .int (nI (lnW i)))]) rfl ?_
  intro p e s m below meth c X hN hnm hr hlk _ hZ ls hl
  have hS : va_S (fun q => n ≤ q) s.heap s.heap [] := va_S.rf
  have hb6 := lnW_b i hi
  refine lv_iload_n X.1 X.2.1 dJ2_checkIndex_0 rfl (lv_at hl 0 rfl) ?_
  refine lv_iload_n X.1 X.2.1 dJ2_checkIndex_1 rfl (lv_at hl 1 rfl) ?_
  refine va_gets X.1 X.2.1 hZ.2.2.1 hS X.2.2.2.1 (X.2.2.2.2.1 _ q553) (fun _ h => h) dJ2_checkIndex_2 ?_
  refine x_cSe (x_runSp X (As := [.int (nI k), .int (nI (lnW i)), .ref fm]) (rest := []) (st_J4_checkIndex l k (lnW i) fm hk (by omega)) xks_J2_1059 rfl rfl ⟨Nat.le_of_ble_eq_true rfl, Nat.le_of_ble_eq_true rfl⟩ hl.1 (Nat.le_of_ble_eq_true rfl) dJ2_checkIndex_5 ⟨Nat.le_of_ble_eq_true rfl, Nat.le_of_ble_eq_true rfl⟩) ?_
  refine lv_pop X.1 X.2.1 dJ2_checkIndex_8 rfl ?_
  exact W.vret X.1 X.2.1 hr (fun t ht _ => ⟨rfl, trivial, ht⟩) (fun q h => by cases h) dJ2_checkIndex_9 hlk
theorem st_J3_charAt (l : Launch) (dC : Nat → ClassId) (dI : Nat → Nat → Nat) (dA : Nat → ClassId) (n : Nat) (adK adV : Nat → Nat) (fm us sb : Nat) (i : Nat) (hi : i < 4) (k : Nat) (hk : k < lnW i) : Met l yJ3_charAt (ws_ yJ3_charAt cJ3_charAt 2 (some .char)) { frames := 3, cells := 0, slots := 0, locals := 180 } (xPz dC dI dA (xZr n adK adV fm us sb) (fun _ => True) [.ref (adV i), .int (nI k)]) (vp_Si (fun r_ => r_ = (chW i k))) 0 0 (fun _ => False) := by
  refine x_inZ (by decide) rfl (Nat.le_of_ble_eq_true rfl) (lv := [(0, .ref (adV i)), (1, .int (nI k))]) rfl ?_
  intro p e s m below meth c X hN hnm hr hlk _ hZ ls hl
  have hS : va_S (fun q => n ≤ q) s.heap s.heap [] := va_S.rf
  have hb6 := lnW_b i hi
  refine lv_iload_n X.1 X.2.1 dJ3_charAt_0 rfl (lv_at hl 1 rfl) ?_
  refine lv_aload_n X.1 X.2.1 dJ3_charAt_1 rfl (lv_at hl 0 rfl) ?_
  refine va_tlen X.1 X.2.1 (hZ.1.1 i hi).2.2.2 hS (v := nI (lnW i)) rfl dJ3_charAt_2 ?_
  refine x_cSv (A := fun _ => False) (x_runSW (xZr_w n adK adV fm us sb) X hN trivial hZ (As := [.int (nI k), .int (nI (lnW i))]) (rest := []) (st_J2_checkIndex l dC dI dA n adK adV fm us sb i hi k hk) xks_J3_9 rfl rfl ⟨Nat.le_of_ble_eq_true rfl, Nat.le_of_ble_eq_true rfl⟩ hl.1 (Nat.le_of_ble_eq_true rfl) dJ3_charAt_3 ⟨Nat.le_of_ble_eq_true rfl, Nat.le_of_ble_eq_true rfl⟩) ?_
  refine lv_aload_n X.1 X.2.1 dJ3_charAt_6 rfl (lv_at hl 0 rfl) ?_
  refine lv_iload_n X.1 X.2.1 dJ3_charAt_7 rfl (lv_at hl 1 rfl) ?_
  refine va_tb X.1 X.2.1 (hZ.1.1 i hi).2.2.2 hS (i := nI k) (v := .int (chW i k)) (vp_in_nI (show k < lenW.getD i 0 from hk) (show lnW i < 2 ^ 31 by omega)) (by rw [nI_clamp (by omega)]; rfl) dJ3_charAt_8 ?_
  refine lv_sipush (v := nI 255) X.1 X.2.1 dJ3_charAt_9 rfl ?_
  refine lv_iand X.1 X.2.1 dJ3_charAt_12 ?_
  refine lv_i2c X.1 X.2.1 dJ3_charAt_13 (chW_c i hi k hk) ?_
  exact W.zret X.1 X.2.1 hr (chW_n i hi k hk) (fun t ht _ => ⟨_, rfl, rfl, ht⟩) (fun q h => by cases h) dJ3_charAt_14 hlk
theorem st_J2_charAt (l : Launch) (dC : Nat → ClassId) (dI : Nat → Nat → Nat) (dA : Nat → ClassId) (n : Nat) (adK adV : Nat → Nat) (fm us sb : Nat) (i : Nat) (hi : i < 4) (k : Nat) (hk : k < lnW i) : Met l yJ2_charAt (ws_ yJ2_charAt cJ2_charAt 2 (some .char)) { frames := 4, cells := 0, slots := 0, locals := 240 } (xPz dC dI dA (xZr n adK adV fm us sb) (fun _ => True) [.ref (adK i), .int (nI k)]) (vp_Si (fun r_ => r_ = (chW i k))) 0 0 (fun _ => False) := by
  refine x_inZ (by decide) rfl (Nat.le_of_ble_eq_true rfl) (lv := [(0, .ref (adK i)), (1, .int (nI k))]) rfl ?_
  intro p e s m below meth c X hN hnm hr hlk _ hZ ls hl
  have hS : va_S (fun q => n ≤ q) s.heap s.heap [] := va_S.rf
  have hb6 := lnW_b i hi
  refine lv_aload_n X.1 X.2.1 dJ2_charAt_0 rfl (lv_at hl 0 rfl) ?_
  refine x_cSe (x_runVW (xZr_w n adK adV fm us sb) X hN trivial hZ (As := []) (rest := []) (st_J2_isLatin1 l dC dI dA n adK adV fm us sb i hi) xkv_J2_492 (vk_recv hZ.1 hi hS) rfl rfl ⟨Nat.le_of_ble_eq_true rfl, Nat.le_of_ble_eq_true rfl⟩ hl.1 (Nat.le_of_ble_eq_true rfl) dJ2_charAt_1 ⟨Nat.le_of_ble_eq_true rfl, Nat.le_of_ble_eq_true rfl⟩) ?_
  refine rn_if_eq (tgt := 16) X.1 X.2.1 (by omega) dJ2_charAt_4 (by decide) (fun c_4 => ?_) (fun c_4 => ?_)
  · exact absurd c_4 (by decide)
  · refine lv_aload_n X.1 X.2.1 dJ2_charAt_7 rfl (lv_at hl 0 rfl) ?_
    refine vk_getf X.1 X.2.1 (hZ.1.1 i hi).2.2.1 hS X.2.2.2.1 (X.2.2.2.2.1 _ q1341) (fun _ h => h) dJ2_charAt_8 ?_
    refine lv_iload_n X.1 X.2.1 dJ2_charAt_11 rfl (lv_at hl 1 rfl) ?_
    refine x_cSe (x_runSW (xZr_w n adK adV fm us sb) X hN trivial hZ (As := [.ref (adV i), .int (nI k)]) (rest := []) (st_J3_charAt l dC dI dA n adK adV fm us sb i hi k hk) xks_J2_495 rfl rfl ⟨Nat.le_of_ble_eq_true rfl, Nat.le_of_ble_eq_true rfl⟩ hl.1 (Nat.le_of_ble_eq_true rfl) dJ2_charAt_12 ⟨Nat.le_of_ble_eq_true rfl, Nat.le_of_ble_eq_true rfl⟩) ?_
    exact W.zret X.1 X.2.1 hr (chW_n i hi k hk) (fun t ht _ => ⟨_, rfl, rfl, ht⟩) (fun q h => by cases h) dJ2_charAt_15 hlk
