set_option maxRecDepth 100000
/-! the Model: what is seen, digests, images -/
theorem rv_and1 {a b : Bool} (h : a = true) (g : b = true) : (a && b) = true := by rw [h, g]; rfl
theorem rv_and0 {a b : Bool} (h : a = false) : (a && b) = false := by rw [h]; rfl
theorem rv_and2 {a b : Bool} (h : b = false) : (a && b) = false := by rw [h, Bool.and_false]
theorem md_rl {p : Program} {l : Launch} {e : Env} {R : Room} {s : State} {m : MethodId} {args : Array Value} {below : List Frame} {meth : Method} {c : Code} {H : Heap} {locs : List Loc} {cc : ByteArray} {pc nL : Nat} {ls : Array Slot} {dC : Nat → ClassId} {dI : Nat → Nat → Nat} {dA : Nat → ClassId} {n : Nat} {σ : mdT} {ab be : Int64} {post : Int64 → mdT → Prop} {v : Int64} {cells slots : Nat} (C : mdC dC dI dA p s m c args cc nL) (hr : meth.sig.returnType = some .long) (hlk : meth.locks = false) (hP : mdP dC dI dA n σ ab be H) (hS : va_S (mdA n) s.heap H locs) (hdg : decode cc pc = .ok (.lreturn, 1)) (hp : post v σ) : W p l e R s m args below meth c H locs cells slots (MQ below (va_Ql post (mdB dC dI dA n ab be) (mdA n)) args s cells slots (mdA n)) (F0 m pc ls [.long v]) :=
  W.lret C.1 C.2.1 hr (fun t ht hW => ⟨⟨v, σ, rfl, hp, by rw [ht]; exact hP, rvK.moved hW.alike C.2.2.2.2.2⟩, hS.F ht⟩) hS.2.2 hdg hlk
def rv_suitN (f : Nat → Int32) (v r : Nat) (ev : Int32) : Bool := rv_fits (f (7 + 6 * v)) (f (7 + 6 * v + 1)) (f (43 + 3 * r)) && (decide (rv_cost (f (7 + 6 * v)) (f (7 + 6 * v + 2)) ≤ f (43 + 3 * r + 1)) && (decide (f (43 + 3 * r + 2) = 6) || decide (f (43 + 3 * r + 2) = rv_weather (f (7 + 6 * v)) (f (7 + 6 * v + 3)) ev)))
theorem mdHand.suit {σ u : mdT} {many rent : Nat} (h : mdHand σ many rent u) {v r : Nat} (hv : v < many) (hr : r < rent) (ev : Int32) : rv_suitM u v r ev = rv_suitN (σ 0) v r ev := by
  obtain ⟨w5, w6, w7⟩ := h.2.2.2.2 r hr
  unfold rv_suitM rv_suitN
  rw [h.Q.1, w5, w6, w7, h.2.2.2.1 v hv]
def sp_suits (σ : mdT) (v r ev : Int32) : Int32 × mdT := if rv_isV σ v = true then (if rv_isR σ r = true then (if rv_in ev 0 99 = true then (rb_i (rv_suitN (σ 0) (rv_cl v) (rv_cl r) ev), σ) else sBad (-2) σ) else sBad (-2) σ) else sBad (-2) σ
def rv_dig (σ : mdT) : Nat → Int64
  | 0 => 997
  | k + 1 => 31 * rv_dig σ k + (sp_counted σ (nI k)).toInt64
def sp_digest (σ : mdT) (ab be : Int64) : Int64 := 31 * (31 * rv_sum (fun k => σ 0 (97 + k)) (rv_sum (fun k => σ 0 (61 + k)) (rv_sum (fun k => σ 0 (43 + k)) (rv_sum (fun k => σ 0 (7 + k)) (rv_dig σ 9) (6 * rv_cl (σ 0 0))) (3 * rv_cl (σ 0 1))) (3 * rv_cl (σ 0 4))) (3 * rv_cl (σ 0 5)) + ab) + be
def sp_part (σ : mdT) (ab be : Int64) (w : Int32) : Int64 × mdT := if w = 0 then (ab, σ) else if w = 1 then (be, σ) else ((sBad (-2) σ).1.toInt64, (sBad (-2) σ).2)
/-- a row of the numbers set -/
def mdR (σ : mdT) (a : Nat) (f : Nat → Int32) : mdT := va_up σ a f
theorem mdR_at (σ : mdT) (a : Nat) (f : Nat → Int32) : mdR σ a f a = f := va_up_self σ a f
theorem mdR_ne (σ : mdT) {a b : Nat} (f : Nat → Int32) (h : b ≠ a) : mdR σ a f b = σ b := va_up_ne σ f h
theorem mdR_S (σ : mdT) (a : Nat) (f : Nat → Int32) (k : Nat) (v : Int32) : mdS (mdR σ a f) a k v = mdR σ a (upd f k v) := by
  funext b
  by_cases h : b = a
  · subst h; funext j; rw [mdR_at, mdS_at, mdR_at]; simp [upd]
  · rw [mdS_row _ _ _ h, mdR_ne _ _ h, mdR_ne _ _ h]
theorem mdR_self (σ : mdT) (a : Nat) : mdR σ a (σ a) = σ := by
  funext b
  by_cases h : b = a
  · subst h; rw [mdR_at]
  · exact mdR_ne σ _ h
theorem mdR_f {σ : mdT} {a : Nat} {f g : Nat → Int32} (h : ∀ k, f k = g k) : mdR σ a f = mdR σ a g := congrArg (mdR σ a) (funext h)
def sp_image (σ : mdT) (i : Int32) : Int32 × mdT := if rv_inI i 0 1 = true then (1, mdS (mdR σ 1 (fun k => if 523 * rv_cl i ≤ k ∧ k < 523 * rv_cl i + 523 then σ 0 (k - 523 * rv_cl i) else σ 1 k)) 2 (rv_cl i) 1) else sBad (-2) σ
def sp_from (σ : mdT) (i : Int32) : Int32 × mdT := if rv_inI i 0 1 = true then (if σ 2 (rv_cl i) = 0 then sNo σ else (1, mdN σ (fun k => if k < 523 then σ 1 (523 * rv_cl i + k) else σ 0 k))) else sBad (-2) σ
theorem rv_vo_ne {f : Nat → Int32} {r : Int32} : ∀ {n : Nat}, rv_vo f r n ≠ -1 → ∃ j, j < n ∧ rv_vo f r n = nI j
  | 0, h => absurd rfl h
  | n + 1, h => by
    by_cases hf : f n = r
    · exact ⟨n, by omega, by rw [rv_vo, if_pos hf]⟩
    · rw [rv_vo, if_neg hf] at h ⊢
      obtain ⟨j, h1, h2⟩ := rv_vo_ne h
      exact ⟨j, by omega, h2⟩
abbrev rv_voN (σ : mdT) (r : Int32) : Int32 := rv_vo (fun v => σ 0 (7 + 6 * v + 4)) r (rv_cl (σ 0 0))
abbrev rv_showN (σ : mdT) (v : Nat) (ev : Int32) : Int32 := rv_weather (σ 0 (7 + 6 * v)) (σ 0 (7 + 6 * v + 3)) ev
def sp_air (σ : mdT) (r : Int32) : Int32 × mdT := if (rv_isR σ r && rv_isR σ (r ^^^ 1)) = true then ((if rv_voN σ r = -1 then -1 else if rv_voN σ (r ^^^ 1) = -1 then -1 else rv_rem6 (rv_showN σ (rv_cl (rv_voN σ r)) (σ 0 2) + rv_showN σ (rv_cl (rv_voN σ (r ^^^ 1))) (σ 0 2))), σ) else sBad (-2) σ
def rv_lw (f : Nat → Int32) (v : Int32) : Nat → Int32
  | 0 => 0
  | n + 1 => if f (61 + 3 * n) = v then rv_lw f v n ||| ((1 : Int32) <<< (f (61 + 3 * n + 1) &&& 31)) else rv_lw f v n
def rv_lf (f : Nat → Int32) (v : Int32) : Nat → Int32
  | 0 => -1
  | n + 1 => if f (61 + 3 * n) = v then (if rv_lf f v n = -1 then f (61 + 3 * n + 2) else rv_lf f v n) else rv_lf f v n
def sp_left (σ : mdT) (v t w : Int32) : Int32 × mdT := if rv_isV σ v = true then (if rv_inI t 0 7 = true then (if (σ 0 (7 + 6 * rv_cl v + 5) >>> (t &&& 31)) &&& 1 = 0 then sBad (-10) σ else (if rv_inI w 0 1 = true then ((if w = 0 then rv_lw (σ 0) v (rv_cl (σ 0 4)) else rv_lf (σ 0) v (rv_cl (σ 0 4))), σ) else sBad (-10) σ)) else sBad (-10) σ) else sBad (-10) σ
/-- whether a view may be of a kind and a weather, by the first n readings -/
def rv_may (f : Nat → Int32) (v kd we : Int32) : Nat → Bool
  | 0 => true
  | n + 1 => rv_may f v kd we n && (decide (¬ f (97 + 3 * n) = v) || decide (rv_weather kd we (f (97 + 3 * n + 1)) = f (97 + 3 * n + 2)))
def rv_pair (f : Nat → Int32) (rd : Nat) (v : Int32) (q : Nat) : Bool := rv_may f v (nI (q / 6)) (nI (q % 6)) rd
def rv_isset (P : Nat → Bool) : Nat → Int32
  | 0 => 0
  | n + 1 => rv_isset P n ||| (if P n = true then (1 : Int32) <<< (nI (n / 6) &&& 31) else 0)
def rv_iscnt (P : Nat → Bool) : Nat → Int32
  | 0 => 0
  | n + 1 => rv_iscnt P n + (if P n = true then 1 else 0)
def sp_is (σ : mdT) (v w : Int32) : Int32 × mdT := if rv_isV σ v = true then (if rv_inI w 0 1 = true then ((if w = 0 then rv_isset (rv_pair (σ 0) (rv_cl (σ 0 5)) v) 36 else rv_iscnt (rv_pair (σ 0) (rv_cl (σ 0 5)) v) 36), σ) else sBad (-2) σ) else sBad (-2) σ
theorem met_suits (l : Launch) (dC : Nat → ClassId) (dI : Nat → Nat → Nat) (dA : Nat → ClassId) (n : Nat) (σ : mdT) (ab be : Int64) (v : Int32) (r : Int32) (ev : Int32) (many : Nat) (h0 : σ 0 0 = nI many) (hm : many ≤ 6) (rent : Nat) (h1 : σ 0 1 = nI rent) (hr6 : rent ≤ 6) : Met l yX5_suits (ws_ yX5_suits cX5_suits 4 (some .int)) { frames := 5, cells := 0, slots := 0, locals := 300 } (mdPc dC dI dA n σ ab be [.ref n, .int v, .int r, .int ev]) (va_Qi (fun r_ u => r_ = (sp_suits σ v r ev).1 ∧ mdQ (sp_suits σ v r ev).2 u) (mdB dC dI dA n ab be) (mdA n)) 0 0 (mdA n) := by
  refine md_in (by decide) rfl (Nat.le_of_ble_eq_true rfl) (lv := [(0, .ref n), (1, .int v), (2, .int r), (3, .int ev)]) rfl ?_
  intro p e s m below meth c C hr hlk hP ls hl
  have hx := C.1
  have hb := C.2.1
  have hown := C.2.2.2.1
  have hts := C.2.2.2.2.1
  have hS : va_S (mdA n) s.heap s.heap [] := va_S.rf
  refine lv_aload_n hx hb dX5_suits_0 rfl (lv_at hl 0 rfl) ?_
  refine lv_iload_n hx hb dX5_suits_1 rfl (lv_at hl 1 rfl) ?_
  refine md_cSe (As := [.int v]) (rest := []) C hP (met_isView l dC dI dA n σ ab be v) card_isView rfl rfl ⟨Nat.le_of_ble_eq_true rfl, Nat.le_of_ble_eq_true rfl⟩ hl.1 (Nat.le_of_ble_eq_true rfl) dX5_suits_2 ?_
  refine rn_zt (tgt := 23) hx hb dX5_suits_5 (by decide) (fun c_5 => ?_) (fun c_5 => ?_)
  · refine lv_aload_n hx hb dX5_suits_23 rfl (lv_at hl 0 rfl) ?_
    refine lv_bipush (v := (-2)) hx hb dX5_suits_24 rfl ?_
    refine md_cWe (As := [.int (-2)]) (rest := []) C hP hS (met_bad l dC dI dA n σ ab be (-2)) card_bad rfl rfl ⟨Nat.le_of_ble_eq_true rfl, Nat.le_of_ble_eq_true rfl⟩ hl.1 (Nat.le_of_ble_eq_true rfl) dX5_suits_26 (fun H locs hP hS => ?_)
    exact md_ri C hr hlk hP hS dX5_suits_29 (by first | (rw [sp_suits, if_neg (rv_nf c_5)]; exact ⟨rfl, (mdQ.rf σ).bad _⟩) | (rw [sp_suits, if_pos c_5, if_neg (rv_nf c_13)]; exact ⟨rfl, (mdQ.rf σ).bad _⟩) | (rw [sp_suits, if_pos c_5, if_pos c_13, if_neg (rv_nf c_20)]; exact ⟨rfl, (mdQ.rf σ).bad _⟩))
  · obtain ⟨j, hj, hv⟩ := rv_isx h0 hm c_5
    refine lv_aload_n hx hb dX5_suits_8 rfl (lv_at hl 0 rfl) ?_
    refine lv_iload_n hx hb dX5_suits_9 rfl (lv_at hl 2 rfl) ?_
    refine md_cSe (As := [.int r]) (rest := []) C hP (met_isRenter l dC dI dA n σ ab be r) card_isRenter rfl rfl ⟨Nat.le_of_ble_eq_true rfl, Nat.le_of_ble_eq_true rfl⟩ hl.1 (Nat.le_of_ble_eq_true rfl) dX5_suits_10 ?_
    refine rn_zt (tgt := 23) hx hb dX5_suits_13 (by decide) (fun c_13 => ?_) (fun c_13 => ?_)
    · refine lv_aload_n hx hb dX5_suits_23 rfl (lv_at hl 0 rfl) ?_
      refine lv_bipush (v := (-2)) hx hb dX5_suits_24 rfl ?_
      refine md_cWe (As := [.int (-2)]) (rest := []) C hP hS (met_bad l dC dI dA n σ ab be (-2)) card_bad rfl rfl ⟨Nat.le_of_ble_eq_true rfl, Nat.le_of_ble_eq_true rfl⟩ hl.1 (Nat.le_of_ble_eq_true rfl) dX5_suits_26 (fun H locs hP hS => ?_)
      exact md_ri C hr hlk hP hS dX5_suits_29 (by first | (rw [sp_suits, if_neg (rv_nf c_5)]; exact ⟨rfl, (mdQ.rf σ).bad _⟩) | (rw [sp_suits, if_pos c_5, if_neg (rv_nf c_13)]; exact ⟨rfl, (mdQ.rf σ).bad _⟩) | (rw [sp_suits, if_pos c_5, if_pos c_13, if_neg (rv_nf c_20)]; exact ⟨rfl, (mdQ.rf σ).bad _⟩))
    · obtain ⟨k, hk, hr_⟩ := rv_isx h1 hr6 c_13
      refine lv_iload_n hx hb dX5_suits_16 rfl (lv_at hl 3 rfl) ?_
      refine md_sSe (As := [.int ev]) (rest := []) C (met_isEvening l ev) card_isEvening rfl rfl ⟨Nat.le_of_ble_eq_true rfl, Nat.le_of_ble_eq_true rfl⟩ hl.1 (Nat.le_of_ble_eq_true rfl) dX5_suits_17 ?_
      refine rn_zf (tgt := 30) hx hb dX5_suits_20 (by decide) (fun c_20 => ?_) (fun c_20 => ?_)
      · refine lv_aload_n hx hb dX5_suits_30 rfl (lv_at hl 0 rfl) ?_
        refine md_cWv (As := []) (rest := []) C hP hS (met_layHand l dC dI dA n σ ab be many h0 hm rent h1 hr6) card_layHand rfl rfl ⟨Nat.le_of_ble_eq_true rfl, Nat.le_of_ble_eq_true rfl⟩ hl.1 (Nat.le_of_ble_eq_true rfl) dX5_suits_31 (fun s30 H locs hs30 hP hS => ?_)
        refine lv_aload_n hx hb dX5_suits_34 rfl (lv_at hl 0 rfl) ?_
        refine lv_iload_n hx hb dX5_suits_35 rfl (lv_at hl 1 rfl) ?_
        refine rn_co (y := nI j) hv ?_
        refine lv_iload_n hx hb dX5_suits_36 rfl (lv_at hl 2 rfl) ?_
        refine rn_co (y := nI k) hr_ ?_
        refine lv_iload_n hx hb dX5_suits_37 rfl (lv_at hl 3 rfl) ?_
        refine md_cSe (As := [.int (nI j), .int (nI k), .int ev]) (rest := []) C hP (met_doesSuit l dC dI dA n s30 ab be j k ev (by omega) (by omega)) card_doesSuit rfl rfl ⟨Nat.le_of_ble_eq_true rfl, Nat.le_of_ble_eq_true rfl⟩ hl.1 (Nat.le_of_ble_eq_true rfl) dX5_suits_38 ?_
        refine rn_zt (tgt := 48) hx hb dX5_suits_41 (by decide) (fun c_41 => ?_) (fun c_41 => ?_)
        · rw [hs30.suit hj hk] at c_41
          refine lv_iconst (v := nI 0) hx hb dX5_suits_48 rfl ?_
          exact md_ri C hr hlk hP hS dX5_suits_49 (by rw [sp_suits, if_pos c_5, if_pos c_13, if_pos c_20, hv, hr_, rv_cln (by omega), rv_cln (by omega)]; first | exact ⟨rb_is1 c_41, hs30.Q⟩ | exact ⟨rb_is0 c_41, hs30.Q⟩)
        · rw [hs30.suit hj hk] at c_41
          refine lv_iconst (v := nI 1) hx hb dX5_suits_44 rfl ?_
          refine lv_goto (tgt := 49) hx hb dX5_suits_45 (by decide) ?_
          exact md_ri C hr hlk hP hS dX5_suits_49 (by rw [sp_suits, if_pos c_5, if_pos c_13, if_pos c_20, hv, hr_, rv_cln (by omega), rv_cln (by omega)]; first | exact ⟨rb_is1 c_41, hs30.Q⟩ | exact ⟨rb_is0 c_41, hs30.Q⟩)
      · refine lv_aload_n hx hb dX5_suits_23 rfl (lv_at hl 0 rfl) ?_
        refine lv_bipush (v := (-2)) hx hb dX5_suits_24 rfl ?_
        refine md_cWe (As := [.int (-2)]) (rest := []) C hP hS (met_bad l dC dI dA n σ ab be (-2)) card_bad rfl rfl ⟨Nat.le_of_ble_eq_true rfl, Nat.le_of_ble_eq_true rfl⟩ hl.1 (Nat.le_of_ble_eq_true rfl) dX5_suits_26 (fun H locs hP hS => ?_)
        exact md_ri C hr hlk hP hS dX5_suits_29 (by first | (rw [sp_suits, if_neg (rv_nf c_5)]; exact ⟨rfl, (mdQ.rf σ).bad _⟩) | (rw [sp_suits, if_pos c_5, if_neg (rv_nf c_13)]; exact ⟨rfl, (mdQ.rf σ).bad _⟩) | (rw [sp_suits, if_pos c_5, if_pos c_13, if_neg (rv_nf c_20)]; exact ⟨rfl, (mdQ.rf σ).bad _⟩))
theorem met_sums (l : Launch) (dC : Nat → ClassId) (dI : Nat → Nat → Nat) (dA : Nat → ClassId) (n : Nat) (σ : mdT) (ab be : Int64) (fr : Int64) (fi : Nat) (ct : Nat) (hct : fi + ct ≤ 523) : Met l yX5_sums (ws_ yX5_sums cX5_sums 8 (some .long)) { frames := 1, cells := 0, slots := 0, locals := 60 } (mdPc dC dI dA n σ ab be [.ref n, .long fr, .int (nI fi), .int (nI ct)]) (vp_Sl (fun r_ => r_ = rv_sum (fun k => σ 0 (fi + k)) fr ct)) 0 0 (fun _ => False) := by
  refine md_in (by decide) rfl (Nat.le_of_ble_eq_true rfl) (lv := [(0, .ref n), (1, .long fr), (3, .int (nI fi)), (4, .int (nI ct))]) rfl ?_
  intro p e s m below meth c C hr hlk hP ls hl
  have hx := C.1
  have hb := C.2.1
  have hown := C.2.2.2.1
  have hts := C.2.2.2.2.1
  have K6 : ∀ (k6_ : Nat) (h : Int64) (i : Nat), ct - i = k6_ → (i ≤ ct) → (h = rv_sum (fun k => σ 0 (fi + k)) fr i) → ∀ ls, lv_has ls 8 [(0, .ref n), (1, .long fr), (3, .int (nI fi)), (4, .int (nI ct)), (5, .long h), (7, .int (nI i))] → W p l e { frames := 1, cells := 0, slots := 0, locals := 60 } s m [.ref n, .long fr, .int (nI fi), .int (nI ct)].toArray below meth c s.heap [] 0 0 (MQ below (vp_Sl (fun r_ => r_ = rv_sum (fun k => σ 0 (fi + k)) fr ct)) [.ref n, .long fr, .int (nI fi), .int (nI ct)].toArray s 0 0 (fun _ => False)) (F0 m 6 ls []) := by
    intro k6_
    induction k6_ using Nat.strongRecOn with
    | _ k6_ ih6 =>
      intro h i hm6_ hi hh ls hl
      refine lv_iload hx hb dX5_sums_6 (lv_at hl 5 rfl) ?_
      refine lv_iload hx hb dX5_sums_8 (lv_at hl 3 rfl) ?_
      refine rn_icmp_ge (tgt := 38) hx hb (by omega) (by omega) dX5_sums_10 (by decide) (fun c_10 => ?_) (fun c_10 => ?_)
      · refine lv_lload hx hb dX5_sums_38 (lv_at hl 4 rfl) ?_
        exact rv_rl hx hb hr hlk dX5_sums_40 (by rw [hh, show i = ct by omega])
      · refine lv_ldc2 (v := 31) hx hb hown (hts _ q1328) dX5_sums_13 ?_
        refine lv_lload hx hb dX5_sums_16 (lv_at hl 4 rfl) ?_
        refine lv_lmul hx hb dX5_sums_18 ?_
        refine lv_aload_n hx hb dX5_sums_19 rfl (lv_at hl 0 rfl) ?_
        refine md_g0 C hP dX5_sums_20 ?_
        refine lv_iload_n hx hb dX5_sums_23 rfl (lv_at hl 2 rfl) ?_
        refine lv_iload hx hb dX5_sums_24 (lv_at hl 5 rfl) ?_
        refine rn_iadd hx hb dX5_sums_26 ?_
        refine md_l0 C hP (by omega) dX5_sums_27 ?_
        refine lv_i2l hx hb dX5_sums_28 rfl ?_
        refine lv_ladd hx hb dX5_sums_29 ?_
        refine lv_lstore (lv' := [(5, .long ((31 * h) + (Int32.toInt64 (σ 0 (fi + i))))), (0, .ref n), (1, .long fr), (3, .int (nI fi)), (4, .int (nI ct)), (7, .int (nI i))]) hx hb dX5_sums_30 hl (by decide) rfl (fun ls hl => ?_)
        refine rn_iinc (lv' := [(7, .int (nI (i + 1))), (5, .long ((31 * h) + (Int32.toInt64 (σ 0 (fi + i))))), (0, .ref n), (1, .long fr), (3, .int (nI fi)), (4, .int (nI ct))]) hx hb dX5_sums_32 hl (k := 5) rfl (by decide) rfl (fun ls hl => ?_)
        refine lv_goto (tgt := 6) hx hb dX5_sums_35 (by decide) ?_
        exact ih6 _ (by omega) ((31 * h) + (Int32.toInt64 (σ 0 (fi + i)))) (i + 1) rfl (by omega) (by simp only [rv_sum]; rw [hh]) ls (lv_sub hl [2, 3, 4, 5, 1, 0] rfl)
  refine lv_lload_n hx hb dX5_sums_0 rfl (lv_at hl 1 rfl) ?_
  refine lv_lstore (lv' := [(5, .long fr), (0, .ref n), (1, .long fr), (3, .int (nI fi)), (4, .int (nI ct))]) hx hb dX5_sums_1 hl (by decide) rfl (fun ls hl => ?_)
  refine lv_iconst (v := nI 0) hx hb dX5_sums_3 rfl ?_
  refine lv_istore (lv' := [(7, .int (nI 0)), (5, .long fr), (0, .ref n), (1, .long fr), (3, .int (nI fi)), (4, .int (nI ct))]) hx hb dX5_sums_4 hl (by decide) rfl (fun ls hl => ?_)
  exact K6 _ fr 0 rfl (by omega) rfl ls (lv_sub hl [2, 3, 4, 5, 1, 0] rfl)
theorem met_digest (l : Launch) (dC : Nat → ClassId) (dI : Nat → Nat → Nat) (dA : Nat → ClassId) (n : Nat) (σ : mdT) (ab be : Int64) (many : Nat) (h0 : σ 0 0 = nI many) (hm : many ≤ 6) (rent : Nat) (h1 : σ 0 1 = nI rent) (hr6 : rent ≤ 6) (hs_ : Nat) (h4 : σ 0 4 = nI hs_) (hs12 : hs_ ≤ 12) (rd : Nat) (h5 : σ 0 5 = nI rd) (hd6 : rd ≤ 6) : Met l yX5_digest (ws_ yX5_digest cX5_digest 4 (some .long)) { frames := 4, cells := 0, slots := 0, locals := 240 } (mdPc dC dI dA n σ ab be [.ref n]) (vp_Sl (fun r_ => r_ = sp_digest σ ab be)) 0 0 (fun _ => False) := by
  refine md_in (by decide) rfl (Nat.le_of_ble_eq_true rfl) (lv := [(0, .ref n)]) rfl ?_
  intro p e s m below meth c C hr hlk hP ls hl
  have hx := C.1
  have hb := C.2.1
  have hown := C.2.2.2.1
  have hts := C.2.2.2.2.1
  have K6 : ∀ (k6_ : Nat) (h : Int64) (i : Nat), 9 - i = k6_ → (i ≤ 9) → (h = rv_dig σ i) → ∀ ls, lv_has ls 4 [(0, .ref n), (1, .long h), (3, .int (nI i))] → W p l e { frames := 4, cells := 0, slots := 0, locals := 240 } s m [.ref n].toArray below meth c s.heap [] 0 0 (MQ below (vp_Sl (fun r_ => r_ = sp_digest σ ab be)) [.ref n].toArray s 0 0 (fun _ => False)) (F0 m 6 ls []) := by
    intro k6_
    induction k6_ using Nat.strongRecOn with
    | _ k6_ ih6 =>
      intro h i hm6_ hi hh ls hl
      refine lv_iload_n hx hb dX5_digest_6 rfl (lv_at hl 2 rfl) ?_
      refine lv_bipush (v := nI 9) hx hb dX5_digest_7 rfl ?_
      refine rn_icmp_ge (tgt := 31) hx hb (by omega) (by omega) dX5_digest_9 (by decide) (fun c_9 => ?_) (fun c_9 => ?_)
      · refine lv_aload_n hx hb dX5_digest_31 rfl (lv_at hl 0 rfl) ?_
        refine lv_lload_n hx hb dX5_digest_32 rfl (lv_at hl 1 rfl) ?_
        refine lv_bipush (v := nI 7) hx hb dX5_digest_33 rfl ?_
        refine lv_bipush (v := nI 6) hx hb dX5_digest_35 rfl ?_
        refine lv_aload_n hx hb dX5_digest_37 rfl (lv_at hl 0 rfl) ?_
        refine md_cSe (As := []) (rest := [.int (nI 6), .int (nI 7), .long h, .ref n]) C hP (met_views l dC dI dA n σ ab be) card_views rfl rfl ⟨Nat.le_of_ble_eq_true rfl, Nat.le_of_ble_eq_true rfl⟩ hl.1 (Nat.le_of_ble_eq_true rfl) dX5_digest_38 ?_
        refine rn_co (y := nI many) h0 ?_
        refine rn_imul hx hb dX5_digest_41 ?_
        refine md_cSle (As := [.long h, .int (nI 7), .int (nI (6 * many))]) (rest := []) C hP (met_sums l dC dI dA n σ ab be h 7 (6 * many) (by omega)) card_sums rfl rfl ⟨Nat.le_of_ble_eq_true rfl, Nat.le_of_ble_eq_true rfl⟩ hl.1 (Nat.le_of_ble_eq_true rfl) dX5_digest_42 ?_
        refine lv_lstore_n (lv' := [(1, .long (rv_sum (fun k => σ 0 (7 + k)) h (6 * many))), (0, .ref n), (3, .int (nI i))]) hx hb dX5_digest_45 rfl hl (by decide) rfl (fun ls hl => ?_)
        refine lv_aload_n hx hb dX5_digest_46 rfl (lv_at hl 1 rfl) ?_
        refine lv_lload_n hx hb dX5_digest_47 rfl (lv_at hl 0 rfl) ?_
        refine lv_bipush (v := nI 43) hx hb dX5_digest_48 rfl ?_
        refine lv_iconst (v := nI 3) hx hb dX5_digest_50 rfl ?_
        refine lv_aload_n hx hb dX5_digest_51 rfl (lv_at hl 1 rfl) ?_
        refine md_cSe (As := []) (rest := [.int (nI 3), .int (nI 43), .long (rv_sum (fun k => σ 0 (7 + k)) h (6 * many)), .ref n]) C hP (met_renters l dC dI dA n σ ab be) card_renters rfl rfl ⟨Nat.le_of_ble_eq_true rfl, Nat.le_of_ble_eq_true rfl⟩ hl.1 (Nat.le_of_ble_eq_true rfl) dX5_digest_52 ?_
        refine rn_co (y := nI rent) h1 ?_
        refine rn_imul hx hb dX5_digest_55 ?_
        refine md_cSle (As := [.long (rv_sum (fun k => σ 0 (7 + k)) h (6 * many)), .int (nI 43), .int (nI (3 * rent))]) (rest := []) C hP (met_sums l dC dI dA n σ ab be (rv_sum (fun k => σ 0 (7 + k)) h (6 * many)) 43 (3 * rent) (by omega)) card_sums rfl rfl ⟨Nat.le_of_ble_eq_true rfl, Nat.le_of_ble_eq_true rfl⟩ hl.1 (Nat.le_of_ble_eq_true rfl) dX5_digest_56 ?_
        refine lv_lstore_n (lv' := [(1, .long (rv_sum (fun k => σ 0 (43 + k)) (rv_sum (fun k => σ 0 (7 + k)) h (6 * many)) (3 * rent))), (0, .ref n), (3, .int (nI i))]) hx hb dX5_digest_59 rfl hl (by decide) rfl (fun ls hl => ?_)
        refine lv_aload_n hx hb dX5_digest_60 rfl (lv_at hl 1 rfl) ?_
        refine lv_lload_n hx hb dX5_digest_61 rfl (lv_at hl 0 rfl) ?_
        refine lv_bipush (v := nI 61) hx hb dX5_digest_62 rfl ?_
        refine lv_iconst (v := nI 3) hx hb dX5_digest_64 rfl ?_
        refine lv_aload_n hx hb dX5_digest_65 rfl (lv_at hl 1 rfl) ?_
        refine md_g0 C hP dX5_digest_66 ?_
        refine lv_iconst (v := nI 4) hx hb dX5_digest_69 rfl ?_
        refine md_l0 C hP (by omega) dX5_digest_70 ?_
        refine rn_co (y := nI hs_) h4 ?_
        refine rn_imul hx hb dX5_digest_71 ?_
        refine md_cSle (As := [.long (rv_sum (fun k => σ 0 (43 + k)) (rv_sum (fun k => σ 0 (7 + k)) h (6 * many)) (3 * rent)), .int (nI 61), .int (nI (3 * hs_))]) (rest := []) C hP (met_sums l dC dI dA n σ ab be (rv_sum (fun k => σ 0 (43 + k)) (rv_sum (fun k => σ 0 (7 + k)) h (6 * many)) (3 * rent)) 61 (3 * hs_) (by omega)) card_sums rfl rfl ⟨Nat.le_of_ble_eq_true rfl, Nat.le_of_ble_eq_true rfl⟩ hl.1 (Nat.le_of_ble_eq_true rfl) dX5_digest_72 ?_
        refine lv_lstore_n (lv' := [(1, .long (rv_sum (fun k => σ 0 (61 + k)) (rv_sum (fun k => σ 0 (43 + k)) (rv_sum (fun k => σ 0 (7 + k)) h (6 * many)) (3 * rent)) (3 * hs_))), (0, .ref n), (3, .int (nI i))]) hx hb dX5_digest_75 rfl hl (by decide) rfl (fun ls hl => ?_)
        refine lv_aload_n hx hb dX5_digest_76 rfl (lv_at hl 1 rfl) ?_
        refine lv_lload_n hx hb dX5_digest_77 rfl (lv_at hl 0 rfl) ?_
        refine lv_bipush (v := nI 97) hx hb dX5_digest_78 rfl ?_
        refine lv_iconst (v := nI 3) hx hb dX5_digest_80 rfl ?_
        refine lv_aload_n hx hb dX5_digest_81 rfl (lv_at hl 1 rfl) ?_
        refine md_g0 C hP dX5_digest_82 ?_
        refine lv_iconst (v := nI 5) hx hb dX5_digest_85 rfl ?_
        refine md_l0 C hP (by omega) dX5_digest_86 ?_
        refine rn_co (y := nI rd) h5 ?_
        refine rn_imul hx hb dX5_digest_87 ?_
        refine md_cSle (As := [.long (rv_sum (fun k => σ 0 (61 + k)) (rv_sum (fun k => σ 0 (43 + k)) (rv_sum (fun k => σ 0 (7 + k)) h (6 * many)) (3 * rent)) (3 * hs_)), .int (nI 97), .int (nI (3 * rd))]) (rest := []) C hP (met_sums l dC dI dA n σ ab be (rv_sum (fun k => σ 0 (61 + k)) (rv_sum (fun k => σ 0 (43 + k)) (rv_sum (fun k => σ 0 (7 + k)) h (6 * many)) (3 * rent)) (3 * hs_)) 97 (3 * rd) (by omega)) card_sums rfl rfl ⟨Nat.le_of_ble_eq_true rfl, Nat.le_of_ble_eq_true rfl⟩ hl.1 (Nat.le_of_ble_eq_true rfl) dX5_digest_88 ?_
        refine lv_lstore_n (lv' := [(1, .long (rv_sum (fun k => σ 0 (97 + k)) (rv_sum (fun k => σ 0 (61 + k)) (rv_sum (fun k => σ 0 (43 + k)) (rv_sum (fun k => σ 0 (7 + k)) h (6 * many)) (3 * rent)) (3 * hs_)) (3 * rd))), (0, .ref n), (3, .int (nI i))]) hx hb dX5_digest_91 rfl hl (by decide) rfl (fun ls hl => ?_)
        refine lv_ldc2 (v := 31) hx hb hown (hts _ q1328) dX5_digest_92 ?_
        refine lv_ldc2 (v := 31) hx hb hown (hts _ q1328) dX5_digest_95 ?_
        refine lv_lload_n hx hb dX5_digest_98 rfl (lv_at hl 0 rfl) ?_
        refine lv_lmul hx hb dX5_digest_99 ?_
        refine lv_aload_n hx hb dX5_digest_100 rfl (lv_at hl 1 rfl) ?_
        refine md_g4 C hP dX5_digest_101 ?_
        refine lv_ladd hx hb dX5_digest_104 ?_
        refine lv_lmul hx hb dX5_digest_105 ?_
        refine lv_aload_n hx hb dX5_digest_106 rfl (lv_at hl 1 rfl) ?_
        refine md_g5 C hP dX5_digest_107 ?_
        refine lv_ladd hx hb dX5_digest_110 ?_
        exact rv_rl hx hb hr hlk dX5_digest_111 (by rw [sp_digest, h0, h1, h4, h5, rv_cln (by omega), rv_cln (by omega), rv_cln (by omega), rv_cln (by omega), ← (show i = 9 by omega), ← hh])
      · refine lv_ldc2 (v := 31) hx hb hown (hts _ q1328) dX5_digest_12 ?_
        refine lv_lload_n hx hb dX5_digest_15 rfl (lv_at hl 1 rfl) ?_
        refine lv_lmul hx hb dX5_digest_16 ?_
        refine lv_aload_n hx hb dX5_digest_17 rfl (lv_at hl 0 rfl) ?_
        refine lv_iload_n hx hb dX5_digest_18 rfl (lv_at hl 2 rfl) ?_
        refine md_cSe (As := [.int (nI i)]) (rest := [.long (31 * h)]) C hP (met_counted l dC dI dA n σ ab be i many h0 hm (by omega)) card_counted rfl rfl ⟨Nat.le_of_ble_eq_true rfl, Nat.le_of_ble_eq_true rfl⟩ hl.1 (Nat.le_of_ble_eq_true rfl) dX5_digest_19 ?_
        refine lv_i2l hx hb dX5_digest_22 rfl ?_
        refine lv_ladd hx hb dX5_digest_23 ?_
        refine lv_lstore_n (lv' := [(1, .long ((31 * h) + (Int32.toInt64 (sp_counted σ (nI i))))), (0, .ref n), (3, .int (nI i))]) hx hb dX5_digest_24 rfl hl (by decide) rfl (fun ls hl => ?_)
        refine rn_iinc (lv' := [(3, .int (nI (i + 1))), (1, .long ((31 * h) + (Int32.toInt64 (sp_counted σ (nI i))))), (0, .ref n)]) hx hb dX5_digest_25 hl (k := 2) rfl (by decide) rfl (fun ls hl => ?_)
        refine lv_goto (tgt := 6) hx hb dX5_digest_28 (by decide) ?_
        exact ih6 _ (by omega) ((31 * h) + (Int32.toInt64 (sp_counted σ (nI i)))) (i + 1) rfl (by omega) (by simp only [rv_dig]; rw [hh]) ls (lv_sub hl [2, 1, 0] rfl)
  refine lv_ldc2 (v := 997) hx hb hown (hts _ q1327) dX5_digest_0 ?_
  refine lv_lstore_n (lv' := [(1, .long 997), (0, .ref n)]) hx hb dX5_digest_3 rfl hl (by decide) rfl (fun ls hl => ?_)
  refine lv_iconst (v := nI 0) hx hb dX5_digest_4 rfl ?_
  refine lv_istore_n (lv' := [(3, .int (nI 0)), (1, .long 997), (0, .ref n)]) hx hb dX5_digest_5 rfl hl (by decide) rfl (fun ls hl => ?_)
  exact K6 _ 997 0 rfl (by omega) rfl ls (lv_sub hl [2, 1, 0] rfl)
theorem met_part (l : Launch) (dC : Nat → ClassId) (dI : Nat → Nat → Nat) (dA : Nat → ClassId) (n : Nat) (σ : mdT) (ab be : Int64) (w : Int32) : Met l yX5_part (ws_ yX5_part cX5_part 2 (some .long)) { frames := 2, cells := 0, slots := 0, locals := 120 } (mdPc dC dI dA n σ ab be [.ref n, .int w]) (va_Ql (fun r_ u => r_ = (sp_part σ ab be w).1 ∧ u = (sp_part σ ab be w).2) (mdB dC dI dA n ab be) (mdA n)) 0 0 (mdA n) := by
  refine md_in (by decide) rfl (Nat.le_of_ble_eq_true rfl) (lv := [(0, .ref n), (1, .int w)]) rfl ?_
  intro p e s m below meth c C hr hlk hP ls hl
  have hx := C.1
  have hb := C.2.1
  have hown := C.2.2.2.1
  have hts := C.2.2.2.2.1
  have hS : va_S (mdA n) s.heap s.heap [] := va_S.rf
  refine lv_iload_n hx hb dX5_part_0 rfl (lv_at hl 1 rfl) ?_
  refine lv_if_ne (tgt := 11) hx hb dX5_part_1 (by decide) (fun (c_1 : ¬ w = 0) => ?_) (fun (c_1 : w = 0) => ?_)
  · refine lv_iload_n hx hb dX5_part_11 rfl (lv_at hl 1 rfl) ?_
    refine lv_iconst (v := nI 1) hx hb dX5_part_12 rfl ?_
    refine lv_icmp_ne (tgt := 23) hx hb dX5_part_13 (by decide) (fun (c_13 : ¬ w = 1) => ?_) (fun (c_13 : w = 1) => ?_)
    · refine lv_aload_n hx hb dX5_part_23 rfl (lv_at hl 0 rfl) ?_
      refine lv_bipush (v := (-2)) hx hb dX5_part_24 rfl ?_
      refine md_cWe (As := [.int (-2)]) (rest := []) C hP hS (met_bad l dC dI dA n σ ab be (-2)) card_bad rfl rfl ⟨Nat.le_of_ble_eq_true rfl, Nat.le_of_ble_eq_true rfl⟩ hl.1 (Nat.le_of_ble_eq_true rfl) dX5_part_26 (fun H locs hP hS => ?_)
      refine lv_i2l hx hb dX5_part_29 rfl ?_
      exact md_rl C hr hlk hP hS dX5_part_30 (by first | (rw [sp_part, if_pos c_1]; exact ⟨rfl, rfl⟩) | (rw [sp_part, if_neg c_1, if_pos c_13]; exact ⟨rfl, rfl⟩) | (rw [sp_part, if_neg c_1, if_neg c_13]; exact ⟨rfl, rfl⟩))
    · refine lv_aload_n hx hb dX5_part_16 rfl (lv_at hl 0 rfl) ?_
      refine md_g5 C hP dX5_part_17 ?_
      refine lv_goto (tgt := 30) hx hb dX5_part_20 (by decide) ?_
      exact md_rl C hr hlk hP hS dX5_part_30 (by first | (rw [sp_part, if_pos c_1]; exact ⟨rfl, rfl⟩) | (rw [sp_part, if_neg c_1, if_pos c_13]; exact ⟨rfl, rfl⟩) | (rw [sp_part, if_neg c_1, if_neg c_13]; exact ⟨rfl, rfl⟩))
  · refine lv_aload_n hx hb dX5_part_4 rfl (lv_at hl 0 rfl) ?_
    refine md_g4 C hP dX5_part_5 ?_
    refine lv_goto (tgt := 30) hx hb dX5_part_8 (by decide) ?_
    exact md_rl C hr hlk hP hS dX5_part_30 (by first | (rw [sp_part, if_pos c_1]; exact ⟨rfl, rfl⟩) | (rw [sp_part, if_neg c_1, if_pos c_13]; exact ⟨rfl, rfl⟩) | (rw [sp_part, if_neg c_1, if_neg c_13]; exact ⟨rfl, rfl⟩))
set_option maxHeartbeats 1000000 in
theorem met_image (l : Launch) (dC : Nat → ClassId) (dI : Nat → Nat → Nat) (dA : Nat → ClassId) (n : Nat) (σ : mdT) (ab be : Int64) (x : Int32) : Met l yX5_image (ws_ yX5_image cX5_image 3 (some .int)) { frames := 2, cells := 0, slots := 0, locals := 120 } (mdPc dC dI dA n σ ab be [.ref n, .int x]) (va_Qi (fun r_ u => r_ = (sp_image σ x).1 ∧ u = (sp_image σ x).2) (mdB dC dI dA n ab be) (mdA n)) 0 0 (mdA n) := by
  refine md_in (by decide) rfl (Nat.le_of_ble_eq_true rfl) (lv := [(0, .ref n), (1, .int x)]) rfl ?_
  intro p e s m below meth c C hr hlk hP ls hl
  have hx := C.1
  have hb := C.2.1
  have hown := C.2.2.2.1
  have hts := C.2.2.2.2.1
  have hS : va_S (mdA n) s.heap s.heap [] := va_S.rf
  have K19 : ∀ (k19_ : Nat) (j : Nat) (i : Nat) (σ1 : mdT) (H : Heap) (locs : List Loc), 523 - i = k19_ → (x = nI j) → (j ≤ 1) → (rv_inI x 0 1 = true) → (i ≤ 523) → (σ1 = mdR σ 1 (fun k => if 523 * j ≤ k ∧ k < 523 * j + i then σ 0 (k - 523 * j) else σ 1 k)) → mdP dC dI dA n σ1 ab be H → va_S (mdA n) s.heap H locs → ∀ ls, lv_has ls 3 [(0, .ref n), (1, .int x), (2, .int (nI i))] → W p l e { frames := 2, cells := 0, slots := 0, locals := 120 } s m [.ref n, .int x].toArray below meth c H locs 0 0 (MQ below (va_Qi (fun r_ u => r_ = (sp_image σ x).1 ∧ u = (sp_image σ x).2) (mdB dC dI dA n ab be) (mdA n)) [.ref n, .int x].toArray s 0 0 (mdA n)) (F0 m 19 ls []) := by
    intro k19_
    induction k19_ using Nat.strongRecOn with
    | _ k19_ ih19 =>
      intro j i σ1 H locs hm19_ hx_ hj hin hi hs hP hS ls hl
      refine lv_iload_n hx hb dX5_image_19 rfl (lv_at hl 2 rfl) ?_
      refine lv_sipush (v := nI 523) hx hb dX5_image_20 rfl ?_
      refine rn_icmp_ge (tgt := 50) hx hb (by omega) (by omega) dX5_image_23 (by decide) (fun c_23 => ?_) (fun c_23 => ?_)
      · refine lv_aload_n hx hb dX5_image_50 rfl (lv_at hl 0 rfl) ?_
        refine md_g2 C hP dX5_image_51 ?_
        refine lv_iload_n hx hb dX5_image_54 rfl (lv_at hl 1 rfl) ?_
        refine rn_co (y := nI j) hx_ ?_
        refine lv_iconst (v := nI 1) hx hb dX5_image_55 rfl ?_
        refine md_s2 C hP hS (by omega) dX5_image_56 (fun H locs hP hS => ?_)
        refine lv_iconst (v := nI 1) hx hb dX5_image_57 rfl ?_
        exact md_ri C hr hlk hP hS dX5_image_58 (by have ei : i = 523 := (by omega); subst ei; rw [sp_image, if_pos hin, hx_, rv_cln (by omega), hs]; exact ⟨rfl, rfl⟩)
      · refine lv_aload_n hx hb dX5_image_26 rfl (lv_at hl 0 rfl) ?_
        refine md_g1 C hP dX5_image_27 ?_
        refine lv_sipush (v := nI 523) hx hb dX5_image_30 rfl ?_
        refine lv_iload_n hx hb dX5_image_33 rfl (lv_at hl 1 rfl) ?_
        refine rn_co (y := nI j) hx_ ?_
        refine rn_imul hx hb dX5_image_34 ?_
        refine lv_iload_n hx hb dX5_image_35 rfl (lv_at hl 2 rfl) ?_
        refine rn_iadd hx hb dX5_image_36 ?_
        refine lv_aload_n hx hb dX5_image_37 rfl (lv_at hl 0 rfl) ?_
        refine md_g0 C hP dX5_image_38 ?_
        refine lv_iload_n hx hb dX5_image_41 rfl (lv_at hl 2 rfl) ?_
        refine md_l0 C hP (by omega) dX5_image_42 ?_
        refine md_s1 C hP hS (by omega) dX5_image_43 (fun H locs hP hS => ?_)
        refine rn_iinc (lv' := [(2, .int (nI (i + 1))), (0, .ref n), (1, .int x)]) hx hb dX5_image_44 hl (k := 2) rfl (by decide) rfl (fun ls hl => ?_)
        refine lv_goto (tgt := 19) hx hb dX5_image_47 (by decide) ?_
        exact ih19 _ (by omega) j (i + 1) (mdS σ1 1 ((523 * j) + i) (σ1 0 i)) _ _ rfl hx_ (by omega) hin (by omega) (by rw [hs, mdR_S, mdR_ne _ _ (by decide)]; refine mdR_f (fun k => ?_); simp only [upd]; clear ih19; grind) hP hS ls (lv_sub hl [1, 2, 0] rfl)
  refine lv_iload_n hx hb dX5_image_0 rfl (lv_at hl 1 rfl) ?_
  refine lv_i2l hx hb dX5_image_1 rfl ?_
  refine lv_lconst (v := 0) hx hb dX5_image_2 rfl ?_
  refine lv_lconst (v := 1) hx hb dX5_image_3 rfl ?_
  refine md_sSe (As := [.long (Int32.toInt64 x), .long 0, .long 1]) (rest := []) C (met_in l (Int32.toInt64 x) 0 1) card_in rfl rfl ⟨Nat.le_of_ble_eq_true rfl, Nat.le_of_ble_eq_true rfl⟩ hl.1 (Nat.le_of_ble_eq_true rfl) dX5_image_4 ?_
  refine rn_zf (tgt := 17) hx hb dX5_image_7 (by decide) (fun c_7 => ?_) (fun c_7 => ?_)
  · obtain ⟨j, hj, hx_⟩ := rv_inIx (v := x) 1 rfl (by omega) c_7
    refine lv_iconst (v := nI 0) hx hb dX5_image_17 rfl ?_
    refine lv_istore_n (lv' := [(2, .int (nI 0)), (0, .ref n), (1, .int x)]) hx hb dX5_image_18 rfl hl (by decide) rfl (fun ls hl => ?_)
    exact K19 _ j 0 σ _ _ rfl hx_ (by omega) c_7 (by omega) (by refine (mdR_self σ 1).symm.trans (mdR_f (fun k => ?_)); grind) hP hS ls (lv_sub hl [1, 2, 0] rfl)
  · refine lv_aload_n hx hb dX5_image_10 rfl (lv_at hl 0 rfl) ?_
    refine lv_bipush (v := (-2)) hx hb dX5_image_11 rfl ?_
    refine md_cWe (As := [.int (-2)]) (rest := []) C hP hS (met_bad l dC dI dA n σ ab be (-2)) card_bad rfl rfl ⟨Nat.le_of_ble_eq_true rfl, Nat.le_of_ble_eq_true rfl⟩ hl.1 (Nat.le_of_ble_eq_true rfl) dX5_image_13 (fun H locs hP hS => ?_)
    exact md_ri C hr hlk hP hS dX5_image_16 (by first | (rw [sp_image, if_neg (rv_nf c_7)]; exact ⟨rfl, rfl⟩))
set_option maxHeartbeats 1000000 in
theorem met_from (l : Launch) (dC : Nat → ClassId) (dI : Nat → Nat → Nat) (dA : Nat → ClassId) (n : Nat) (σ : mdT) (ab be : Int64) (x : Int32) : Met l yX5_from (ws_ yX5_from cX5_from 3 (some .int)) { frames := 2, cells := 0, slots := 0, locals := 120 } (mdPc dC dI dA n σ ab be [.ref n, .int x]) (va_Qi (fun r_ u => r_ = (sp_from σ x).1 ∧ u = (sp_from σ x).2) (mdB dC dI dA n ab be) (mdA n)) 0 0 (mdA n) := by
  refine md_in (by decide) rfl (Nat.le_of_ble_eq_true rfl) (lv := [(0, .ref n), (1, .int x)]) rfl ?_
  intro p e s m below meth c C hr hlk hP ls hl
  have hx := C.1
  have hb := C.2.1
  have hown := C.2.2.2.1
  have hts := C.2.2.2.2.1
  have hS : va_S (mdA n) s.heap s.heap [] := va_S.rf
  have K33 : ∀ (k33_ : Nat) (j : Nat) (i : Nat) (σ1 : mdT) (H : Heap) (locs : List Loc), 523 - i = k33_ → (x = nI j) → (j ≤ 1) → (rv_inI x 0 1 = true) → (¬ σ 2 j = 0) → (i ≤ 523) → (σ1 = mdN σ (fun k => if k < i then σ 1 (523 * j + k) else σ 0 k)) → mdP dC dI dA n σ1 ab be H → va_S (mdA n) s.heap H locs → ∀ ls, lv_has ls 3 [(0, .ref n), (1, .int x), (2, .int (nI i))] → W p l e { frames := 2, cells := 0, slots := 0, locals := 120 } s m [.ref n, .int x].toArray below meth c H locs 0 0 (MQ below (va_Qi (fun r_ u => r_ = (sp_from σ x).1 ∧ u = (sp_from σ x).2) (mdB dC dI dA n ab be) (mdA n)) [.ref n, .int x].toArray s 0 0 (mdA n)) (F0 m 33 ls []) := by
    intro k33_
    induction k33_ using Nat.strongRecOn with
    | _ k33_ ih33 =>
      intro j i σ1 H locs hm33_ hx_ hj hin hk hi hs hP hS ls hl
      refine lv_iload_n hx hb dX5_from_33 rfl (lv_at hl 2 rfl) ?_
      refine lv_sipush (v := nI 523) hx hb dX5_from_34 rfl ?_
      refine rn_icmp_ge (tgt := 64) hx hb (by omega) (by omega) dX5_from_37 (by decide) (fun c_37 => ?_) (fun c_37 => ?_)
      · refine lv_iconst (v := nI 1) hx hb dX5_from_64 rfl ?_
        exact md_ri C hr hlk hP hS dX5_from_65 (by have ei : i = 523 := (by omega); subst ei; rw [sp_from, if_pos hin, hx_, rv_cln (by omega), if_neg hk, hs]; exact ⟨rfl, rfl⟩)
      · refine lv_aload_n hx hb dX5_from_40 rfl (lv_at hl 0 rfl) ?_
        refine md_g0 C hP dX5_from_41 ?_
        refine lv_iload_n hx hb dX5_from_44 rfl (lv_at hl 2 rfl) ?_
        refine lv_aload_n hx hb dX5_from_45 rfl (lv_at hl 0 rfl) ?_
        refine md_g1 C hP dX5_from_46 ?_
        refine lv_sipush (v := nI 523) hx hb dX5_from_49 rfl ?_
        refine lv_iload_n hx hb dX5_from_52 rfl (lv_at hl 1 rfl) ?_
        refine rn_co (y := nI j) hx_ ?_
        refine rn_imul hx hb dX5_from_53 ?_
        refine lv_iload_n hx hb dX5_from_54 rfl (lv_at hl 2 rfl) ?_
        refine rn_iadd hx hb dX5_from_55 ?_
        refine md_l1 C hP (by omega) dX5_from_56 ?_
        refine md_s0 C hP hS (by omega) dX5_from_57 (fun H locs hP hS => ?_)
        refine rn_iinc (lv' := [(2, .int (nI (i + 1))), (0, .ref n), (1, .int x)]) hx hb dX5_from_58 hl (k := 2) rfl (by decide) rfl (fun ls hl => ?_)
        refine lv_goto (tgt := 33) hx hb dX5_from_61 (by decide) ?_
        exact ih33 _ (by omega) j (i + 1) (mdS σ1 0 i (σ1 1 ((523 * j) + i))) _ _ rfl hx_ (by omega) hin hk (by omega) (by rw [hs, mdN_S, mdN_ne _ _ (by decide)]; refine mdN_f (fun k => ?_); simp only [upd]; clear ih33; grind) hP hS ls (lv_sub hl [1, 2, 0] rfl)
  refine lv_iload_n hx hb dX5_from_0 rfl (lv_at hl 1 rfl) ?_
  refine lv_i2l hx hb dX5_from_1 rfl ?_
  refine lv_lconst (v := 0) hx hb dX5_from_2 rfl ?_
  refine lv_lconst (v := 1) hx hb dX5_from_3 rfl ?_
  refine md_sSe (As := [.long (Int32.toInt64 x), .long 0, .long 1]) (rest := []) C (met_in l (Int32.toInt64 x) 0 1) card_in rfl rfl ⟨Nat.le_of_ble_eq_true rfl, Nat.le_of_ble_eq_true rfl⟩ hl.1 (Nat.le_of_ble_eq_true rfl) dX5_from_4 ?_
  refine rn_zf (tgt := 17) hx hb dX5_from_7 (by decide) (fun c_7 => ?_) (fun c_7 => ?_)
  · obtain ⟨j, hj, hx_⟩ := rv_inIx (v := x) 1 rfl (by omega) c_7
    refine lv_aload_n hx hb dX5_from_17 rfl (lv_at hl 0 rfl) ?_
    refine md_g2 C hP dX5_from_18 ?_
    refine lv_iload_n hx hb dX5_from_21 rfl (lv_at hl 1 rfl) ?_
    refine rn_co (y := nI j) hx_ ?_
    refine md_l2 C hP (by omega) dX5_from_22 ?_
    refine lv_if_ne (tgt := 31) hx hb dX5_from_23 (by decide) (fun (c_23 : ¬ σ 2 j = 0) => ?_) (fun (c_23 : σ 2 j = 0) => ?_)
    · refine lv_iconst (v := nI 0) hx hb dX5_from_31 rfl ?_
      refine lv_istore_n (lv' := [(2, .int (nI 0)), (0, .ref n), (1, .int x)]) hx hb dX5_from_32 rfl hl (by decide) rfl (fun ls hl => ?_)
      exact K33 _ j 0 σ _ _ rfl hx_ (by omega) c_7 c_23 (by omega) (by refine (mdN_self σ).symm.trans (mdN_f (fun k => ?_)); grind) hP hS ls (lv_sub hl [1, 2, 0] rfl)
    · refine lv_aload_n hx hb dX5_from_26 rfl (lv_at hl 0 rfl) ?_
      refine md_cWe (As := []) (rest := []) C hP hS (met_no l dC dI dA n σ ab be) card_no rfl rfl ⟨Nat.le_of_ble_eq_true rfl, Nat.le_of_ble_eq_true rfl⟩ hl.1 (Nat.le_of_ble_eq_true rfl) dX5_from_27 (fun H locs hP hS => ?_)
      exact md_ri C hr hlk hP hS dX5_from_30 (by first | (rw [sp_from, if_pos c_7, hx_, rv_cln (by omega), if_pos c_23]; exact ⟨rfl, rfl⟩))
  · refine lv_aload_n hx hb dX5_from_10 rfl (lv_at hl 0 rfl) ?_
    refine lv_bipush (v := (-2)) hx hb dX5_from_11 rfl ?_
    refine md_cWe (As := [.int (-2)]) (rest := []) C hP hS (met_bad l dC dI dA n σ ab be (-2)) card_bad rfl rfl ⟨Nat.le_of_ble_eq_true rfl, Nat.le_of_ble_eq_true rfl⟩ hl.1 (Nat.le_of_ble_eq_true rfl) dX5_from_13 (fun H locs hP hS => ?_)
    exact md_ri C hr hlk hP hS dX5_from_16 (by first | (rw [sp_from, if_neg (rv_nf c_7)]; exact ⟨rfl, rfl⟩))
theorem met_areOpposite (l : Launch) (dC : Nat → ClassId) (dI : Nat → Nat → Nat) (dA : Nat → ClassId) (n : Nat) (σ : mdT) (ab be : Int64) (r : Int32) : Met l yX5_areOpposite (ws_ yX5_areOpposite cX5_areOpposite 2 (some .boolean)) { frames := 3, cells := 0, slots := 0, locals := 180 } (mdPc dC dI dA n σ ab be [.ref n, .int r]) (vp_Si (fun r_ => r_ = (rb_i (rv_isR σ r && rv_isR σ (r ^^^ 1))))) 0 0 (fun _ => False) := by
  refine md_in (by decide) rfl (Nat.le_of_ble_eq_true rfl) (lv := [(0, .ref n), (1, .int r)]) rfl ?_
  intro p e s m below meth c C hr hlk hP ls hl
  have hx := C.1
  have hb := C.2.1
  have hown := C.2.2.2.1
  have hts := C.2.2.2.2.1
  refine lv_aload_n hx hb dX5_areOpposite_0 rfl (lv_at hl 0 rfl) ?_
  refine lv_iload_n hx hb dX5_areOpposite_1 rfl (lv_at hl 1 rfl) ?_
  refine md_cSe (As := [.int r]) (rest := []) C hP (met_isRenter l dC dI dA n σ ab be r) card_isRenter rfl rfl ⟨Nat.le_of_ble_eq_true rfl, Nat.le_of_ble_eq_true rfl⟩ hl.1 (Nat.le_of_ble_eq_true rfl) dX5_areOpposite_2 ?_
  refine rn_zt (tgt := 22) hx hb dX5_areOpposite_5 (by decide) (fun c_5 => ?_) (fun c_5 => ?_)
  · refine lv_iconst (v := nI 0) hx hb dX5_areOpposite_22 rfl ?_
    exact rv_rz hx hb hr hlk rfl dX5_areOpposite_23 (by first | exact rb_is1 (rv_and1 c_5 c_15) | exact rb_is0 (rv_and0 c_5) | exact rb_is0 (rv_and2 c_15))
  · refine lv_aload_n hx hb dX5_areOpposite_8 rfl (lv_at hl 0 rfl) ?_
    refine lv_iload_n hx hb dX5_areOpposite_9 rfl (lv_at hl 1 rfl) ?_
    refine lv_iconst (v := nI 1) hx hb dX5_areOpposite_10 rfl ?_
    refine lv_ixor hx hb dX5_areOpposite_11 ?_
    refine md_cSe (As := [.int (r ^^^ 1)]) (rest := []) C hP (met_isRenter l dC dI dA n σ ab be (r ^^^ 1)) card_isRenter rfl rfl ⟨Nat.le_of_ble_eq_true rfl, Nat.le_of_ble_eq_true rfl⟩ hl.1 (Nat.le_of_ble_eq_true rfl) dX5_areOpposite_12 ?_
    refine rn_zt (tgt := 22) hx hb dX5_areOpposite_15 (by decide) (fun c_15 => ?_) (fun c_15 => ?_)
    · refine lv_iconst (v := nI 0) hx hb dX5_areOpposite_22 rfl ?_
      exact rv_rz hx hb hr hlk rfl dX5_areOpposite_23 (by first | exact rb_is1 (rv_and1 c_5 c_15) | exact rb_is0 (rv_and0 c_5) | exact rb_is0 (rv_and2 c_15))
    · refine lv_iconst (v := nI 1) hx hb dX5_areOpposite_18 rfl ?_
      refine lv_goto (tgt := 23) hx hb dX5_areOpposite_19 (by decide) ?_
      exact rv_rz hx hb hr hlk rfl dX5_areOpposite_23 (by first | exact rb_is1 (rv_and1 c_5 c_15) | exact rb_is0 (rv_and0 c_5) | exact rb_is0 (rv_and2 c_15))
theorem met_air (l : Launch) (dC : Nat → ClassId) (dI : Nat → Nat → Nat) (dA : Nat → ClassId) (n : Nat) (σ : mdT) (ab be : Int64) (r : Int32) (many : Nat) (h0 : σ 0 0 = nI many) (hm : many ≤ 6) : Met l yX5_air (ws_ yX5_air cX5_air 4 (some .int)) { frames := 4, cells := 0, slots := 0, locals := 240 } (mdPc dC dI dA n σ ab be [.ref n, .int r]) (va_Qi (fun r_ u => r_ = (sp_air σ r).1 ∧ u = (sp_air σ r).2) (mdB dC dI dA n ab be) (mdA n)) 0 0 (mdA n) := by
  refine md_in (by decide) rfl (Nat.le_of_ble_eq_true rfl) (lv := [(0, .ref n), (1, .int r)]) rfl ?_
  intro p e s m below meth c C hr hlk hP ls hl
  have hx := C.1
  have hb := C.2.1
  have hown := C.2.2.2.1
  have hts := C.2.2.2.2.1
  have hS : va_S (mdA n) s.heap s.heap [] := va_S.rf
  refine lv_aload_n hx hb dX5_air_0 rfl (lv_at hl 0 rfl) ?_
  refine lv_iload_n hx hb dX5_air_1 rfl (lv_at hl 1 rfl) ?_
  refine md_cSe (As := [.int r]) (rest := []) C hP (met_areOpposite l dC dI dA n σ ab be r) card_areOpposite rfl rfl ⟨Nat.le_of_ble_eq_true rfl, Nat.le_of_ble_eq_true rfl⟩ hl.1 (Nat.le_of_ble_eq_true rfl) dX5_air_2 ?_
  refine rn_zf (tgt := 15) hx hb dX5_air_5 (by decide) (fun c_5 => ?_) (fun c_5 => ?_)
  · refine lv_aload_n hx hb dX5_air_15 rfl (lv_at hl 0 rfl) ?_
    refine lv_iload_n hx hb dX5_air_16 rfl (lv_at hl 1 rfl) ?_
    refine md_cSe (As := [.int r]) (rest := []) C hP (met_viewOf l dC dI dA n σ ab be r many h0 hm) card_viewOf rfl rfl ⟨Nat.le_of_ble_eq_true rfl, Nat.le_of_ble_eq_true rfl⟩ hl.1 (Nat.le_of_ble_eq_true rfl) dX5_air_17 ?_
    refine lv_topi (fun a_ ea_ => ?_)
    refine lv_istore_n (lv' := [(2, .int a_), (0, .ref n), (1, .int r)]) hx hb dX5_air_20 rfl hl (by decide) rfl (fun ls hl => ?_)
    refine lv_aload_n hx hb dX5_air_21 rfl (lv_at hl 1 rfl) ?_
    refine lv_iload_n hx hb dX5_air_22 rfl (lv_at hl 2 rfl) ?_
    refine lv_iconst (v := nI 1) hx hb dX5_air_23 rfl ?_
    refine lv_ixor hx hb dX5_air_24 ?_
    refine md_cSe (As := [.int (r ^^^ 1)]) (rest := []) C hP (met_viewOf l dC dI dA n σ ab be (r ^^^ 1) many h0 hm) card_viewOf rfl rfl ⟨Nat.le_of_ble_eq_true rfl, Nat.le_of_ble_eq_true rfl⟩ hl.1 (Nat.le_of_ble_eq_true rfl) dX5_air_25 ?_
    refine lv_topi (fun b_ eb_ => ?_)
    refine lv_istore_n (lv' := [(3, .int b_), (2, .int a_), (0, .ref n), (1, .int r)]) hx hb dX5_air_28 rfl hl (by decide) rfl (fun ls hl => ?_)
    refine lv_iload_n hx hb dX5_air_29 rfl (lv_at hl 1 rfl) ?_
    refine lv_iconst (v := (-1)) hx hb dX5_air_30 rfl ?_
    refine lv_icmp_eq (tgt := 39) hx hb dX5_air_31 (by decide) (fun (c_31 : a_ = (-1)) => ?_) (fun (c_31 : ¬ a_ = (-1)) => ?_)
    · refine lv_iconst (v := (-1)) hx hb dX5_air_39 rfl ?_
      refine lv_goto (tgt := 69) hx hb dX5_air_40 (by decide) ?_
      exact md_ri C hr hlk hP hS dX5_air_69 (by rw [sp_air, if_pos c_5]; unfold rv_voN; rw [h0, rv_cln (by omega)]; first | (rw [if_pos (ea_.symm.trans c_31)]; exact ⟨rfl, rfl⟩) | (rw [if_neg (fun z => c_31 (ea_.trans z)), if_pos (eb_.symm.trans c_36)]; exact ⟨rfl, rfl⟩) | (rw [if_neg (fun z => c_31 (ea_.trans z)), if_neg (fun z => c_36 (eb_.trans z)), show rv_vo (fun v => σ 0 (7 + 6 * v + 4)) r many = nI ja from ea_.symm.trans hja, show rv_vo (fun v => σ 0 (7 + 6 * v + 4)) (r ^^^ 1) many = nI jb from eb_.symm.trans hjb, rv_cln (by omega), rv_cln (by omega)]; exact ⟨rfl, rfl⟩))
    · refine lv_iload_n hx hb dX5_air_34 rfl (lv_at hl 0 rfl) ?_
      refine lv_iconst (v := (-1)) hx hb dX5_air_35 rfl ?_
      refine lv_icmp_ne (tgt := 43) hx hb dX5_air_36 (by decide) (fun (c_36 : ¬ b_ = (-1)) => ?_) (fun (c_36 : b_ = (-1)) => ?_)
      · obtain ⟨ja, hja1, hja⟩ := rv_vo_ne (by rw [← ea_]; exact c_31)
        obtain ⟨jb, hjb1, hjb⟩ := rv_vo_ne (by rw [← eb_]; exact c_36)
        rw [← ea_] at hja
        rw [← eb_] at hjb
        refine lv_aload_n hx hb dX5_air_43 rfl (lv_at hl 2 rfl) ?_
        refine lv_iload_n hx hb dX5_air_44 rfl (lv_at hl 1 rfl) ?_
        refine rn_co (y := nI ja) hja ?_
        refine lv_aload_n hx hb dX5_air_45 rfl (lv_at hl 2 rfl) ?_
        refine md_g0 C hP dX5_air_46 ?_
        refine lv_iconst (v := nI 2) hx hb dX5_air_49 rfl ?_
        refine md_l0 C hP (by omega) dX5_air_50 ?_
        refine md_cSe (As := [.int (nI ja), .int (σ 0 2)]) (rest := []) C hP (met_showsIn l dC dI dA n σ ab be ja (σ 0 2) (by omega)) card_showsIn rfl rfl ⟨Nat.le_of_ble_eq_true rfl, Nat.le_of_ble_eq_true rfl⟩ hl.1 (Nat.le_of_ble_eq_true rfl) dX5_air_51 ?_
        refine lv_aload_n hx hb dX5_air_54 rfl (lv_at hl 2 rfl) ?_
        refine lv_iload_n hx hb dX5_air_55 rfl (lv_at hl 0 rfl) ?_
        refine rn_co (y := nI jb) hjb ?_
        refine lv_aload_n hx hb dX5_air_56 rfl (lv_at hl 2 rfl) ?_
        refine md_g0 C hP dX5_air_57 ?_
        refine lv_iconst (v := nI 2) hx hb dX5_air_60 rfl ?_
        refine md_l0 C hP (by omega) dX5_air_61 ?_
        refine md_cSe (As := [.int (nI jb), .int (σ 0 2)]) (rest := [.int (rv_weather (σ 0 (7 + 6 * ja)) (σ 0 (7 + 6 * ja + 3)) (σ 0 2))]) C hP (met_showsIn l dC dI dA n σ ab be jb (σ 0 2) (by omega)) card_showsIn rfl rfl ⟨Nat.le_of_ble_eq_true rfl, Nat.le_of_ble_eq_true rfl⟩ hl.1 (Nat.le_of_ble_eq_true rfl) dX5_air_62 ?_
        refine lv_iadd hx hb dX5_air_65 ?_
        refine lv_bipush (v := nI 6) hx hb dX5_air_66 rfl ?_
        refine lv_irem hx hb dX5_air_68 (by decide) ?_
        exact md_ri C hr hlk hP hS dX5_air_69 (by rw [sp_air, if_pos c_5]; unfold rv_voN; rw [h0, rv_cln (by omega)]; first | (rw [if_pos (ea_.symm.trans c_31)]; exact ⟨rfl, rfl⟩) | (rw [if_neg (fun z => c_31 (ea_.trans z)), if_pos (eb_.symm.trans c_36)]; exact ⟨rfl, rfl⟩) | (rw [if_neg (fun z => c_31 (ea_.trans z)), if_neg (fun z => c_36 (eb_.trans z)), show rv_vo (fun v => σ 0 (7 + 6 * v + 4)) r many = nI ja from ea_.symm.trans hja, show rv_vo (fun v => σ 0 (7 + 6 * v + 4)) (r ^^^ 1) many = nI jb from eb_.symm.trans hjb, rv_cln (by omega), rv_cln (by omega)]; exact ⟨rfl, rfl⟩))
      · refine lv_iconst (v := (-1)) hx hb dX5_air_39 rfl ?_
        refine lv_goto (tgt := 69) hx hb dX5_air_40 (by decide) ?_
        exact md_ri C hr hlk hP hS dX5_air_69 (by rw [sp_air, if_pos c_5]; unfold rv_voN; rw [h0, rv_cln (by omega)]; first | (rw [if_pos (ea_.symm.trans c_31)]; exact ⟨rfl, rfl⟩) | (rw [if_neg (fun z => c_31 (ea_.trans z)), if_pos (eb_.symm.trans c_36)]; exact ⟨rfl, rfl⟩) | (rw [if_neg (fun z => c_31 (ea_.trans z)), if_neg (fun z => c_36 (eb_.trans z)), show rv_vo (fun v => σ 0 (7 + 6 * v + 4)) r many = nI ja from ea_.symm.trans hja, show rv_vo (fun v => σ 0 (7 + 6 * v + 4)) (r ^^^ 1) many = nI jb from eb_.symm.trans hjb, rv_cln (by omega), rv_cln (by omega)]; exact ⟨rfl, rfl⟩))
  · refine lv_aload_n hx hb dX5_air_8 rfl (lv_at hl 0 rfl) ?_
    refine lv_bipush (v := (-2)) hx hb dX5_air_9 rfl ?_
    refine md_cWe (As := [.int (-2)]) (rest := []) C hP hS (met_bad l dC dI dA n σ ab be (-2)) card_bad rfl rfl ⟨Nat.le_of_ble_eq_true rfl, Nat.le_of_ble_eq_true rfl⟩ hl.1 (Nat.le_of_ble_eq_true rfl) dX5_air_11 (fun H locs hP hS => ?_)
    exact md_ri C hr hlk hP hS dX5_air_14 (by first | (rw [sp_air, if_neg (rv_nf c_5)]; exact ⟨rfl, rfl⟩))
theorem met_left (l : Launch) (dC : Nat → ClassId) (dI : Nat → Nat → Nat) (dA : Nat → ClassId) (n : Nat) (σ : mdT) (ab be : Int64) (v : Int32) (t : Int32) (w : Int32) (many : Nat) (h0 : σ 0 0 = nI many) (hm : many ≤ 6) (hs_ : Nat) (h4 : σ 0 4 = nI hs_) (hs12 : hs_ ≤ 12) : Met l yX5_left (ws_ yX5_left cX5_left 7 (some .int)) { frames := 3, cells := 0, slots := 0, locals := 180 } (mdPc dC dI dA n σ ab be [.ref n, .int v, .int t, .int w]) (va_Qi (fun r_ u => r_ = (sp_left σ v t w).1 ∧ u = (sp_left σ v t w).2) (mdB dC dI dA n ab be) (mdA n)) 0 0 (mdA n) := by
  refine md_in (by decide) rfl (Nat.le_of_ble_eq_true rfl) (lv := [(0, .ref n), (1, .int v), (2, .int t), (3, .int w)]) rfl ?_
  intro p e s m below meth c C hr hlk hP ls hl
  have hx := C.1
  have hb := C.2.1
  have hown := C.2.2.2.1
  have hts := C.2.2.2.2.1
  have hS : va_S (mdA n) s.heap s.heap [] := va_S.rf
  have K59 : ∀ (k59_ : Nat) (wh : Int32) (fi : Int32) (i : Nat) (H : Heap) (locs : List Loc), hs_ - i = k59_ → (sp_left σ v t w = (if w = 0 then rv_lw (σ 0) v hs_ else rv_lf (σ 0) v hs_, σ)) → (i ≤ hs_) → (wh = rv_lw (σ 0) v i) → (fi = rv_lf (σ 0) v i) → mdP dC dI dA n σ ab be H → va_S (mdA n) s.heap H locs → ∀ ls, lv_has ls 7 [(0, .ref n), (1, .int v), (2, .int t), (3, .int w), (4, .int wh), (5, .int fi), (6, .int (nI i))] → W p l e { frames := 3, cells := 0, slots := 0, locals := 180 } s m [.ref n, .int v, .int t, .int w].toArray below meth c H locs 0 0 (MQ below (va_Qi (fun r_ u => r_ = (sp_left σ v t w).1 ∧ u = (sp_left σ v t w).2) (mdB dC dI dA n ab be) (mdA n)) [.ref n, .int v, .int t, .int w].toArray s 0 0 (mdA n)) (F0 m 59 ls []) := by
    intro k59_
    induction k59_ using Nat.strongRecOn with
    | _ k59_ ih59 =>
      intro wh fi i H locs hm59_ U hi hw hf hP hS ls hl
      refine lv_iload hx hb dX5_left_59 (lv_at hl 6 rfl) ?_
      refine lv_aload_n hx hb dX5_left_61 rfl (lv_at hl 0 rfl) ?_
      refine md_g0 C hP dX5_left_62 ?_
      refine lv_iconst (v := nI 4) hx hb dX5_left_65 rfl ?_
      refine md_l0 C hP (by omega) dX5_left_66 ?_
      refine rn_co (y := nI hs_) h4 ?_
      refine rn_icmp_ge (tgt := 140) hx hb (by omega) (by omega) dX5_left_67 (by decide) (fun c_67 => ?_) (fun c_67 => ?_)
      · refine lv_iload_n hx hb dX5_left_140 rfl (lv_at hl 3 rfl) ?_
        refine lv_if_ne (tgt := 149) hx hb dX5_left_141 (by decide) (fun (c_141 : ¬ w = 0) => ?_) (fun (c_141 : w = 0) => ?_)
        · refine lv_iload hx hb dX5_left_149 (lv_at hl 5 rfl) ?_
          exact md_ri C hr hlk hP hS dX5_left_151 (by rw [U]; have ei : i = hs_ := (by omega); subst ei; first | (rw [if_pos c_141]; exact ⟨hw, rfl⟩) | (rw [if_neg c_141]; exact ⟨hf, rfl⟩))
        · refine lv_iload hx hb dX5_left_144 (lv_at hl 4 rfl) ?_
          refine lv_goto (tgt := 151) hx hb dX5_left_146 (by decide) ?_
          exact md_ri C hr hlk hP hS dX5_left_151 (by rw [U]; have ei : i = hs_ := (by omega); subst ei; first | (rw [if_pos c_141]; exact ⟨hw, rfl⟩) | (rw [if_neg c_141]; exact ⟨hf, rfl⟩))
      · refine lv_aload_n hx hb dX5_left_70 rfl (lv_at hl 0 rfl) ?_
        refine md_g0 C hP dX5_left_71 ?_
        refine lv_bipush (v := nI 61) hx hb dX5_left_74 rfl ?_
        refine lv_iconst (v := nI 3) hx hb dX5_left_76 rfl ?_
        refine lv_iload hx hb dX5_left_77 (lv_at hl 6 rfl) ?_
        refine rn_imul hx hb dX5_left_79 ?_
        refine rn_iadd hx hb dX5_left_80 ?_
        refine md_l0 C hP (by omega) dX5_left_81 ?_
        refine lv_iload_n hx hb dX5_left_82 rfl (lv_at hl 1 rfl) ?_
        refine lv_icmp_ne (tgt := 134) hx hb dX5_left_83 (by decide) (fun (c_83 : ¬ σ 0 (61 + (3 * i)) = v) => ?_) (fun (c_83 : σ 0 (61 + (3 * i)) = v) => ?_)
        · refine rn_iinc (lv' := [(6, .int (nI (i + 1))), (0, .ref n), (1, .int v), (2, .int t), (3, .int w), (4, .int wh), (5, .int fi)]) hx hb dX5_left_134 hl (k := 6) rfl (by decide) rfl (fun ls hl => ?_)
          refine lv_goto (tgt := 59) hx hb dX5_left_137 (by decide) ?_
          exact ih59 _ (by omega) wh fi (i + 1) _ _ rfl U (by omega) (by simp only [rv_lw]; first | rw [if_pos c_83, hw] | rw [if_neg c_83, hw]) (by simp only [rv_lf]; first | rw [if_neg c_83, hf] | (rw [← hf, if_pos c_83, if_pos c_110]; done) | (rw [← hf, if_pos c_83, if_neg c_110]; done)) hP hS ls (lv_sub hl [1, 2, 3, 4, 5, 6, 0] rfl)
        · refine lv_iload hx hb dX5_left_86 (lv_at hl 4 rfl) ?_
          refine lv_iconst (v := nI 1) hx hb dX5_left_88 rfl ?_
          refine lv_aload_n hx hb dX5_left_89 rfl (lv_at hl 0 rfl) ?_
          refine md_g0 C hP dX5_left_90 ?_
          refine lv_bipush (v := nI 61) hx hb dX5_left_93 rfl ?_
          refine lv_iconst (v := nI 3) hx hb dX5_left_95 rfl ?_
          refine lv_iload hx hb dX5_left_96 (lv_at hl 6 rfl) ?_
          refine rn_imul hx hb dX5_left_98 ?_
          refine rn_iadd hx hb dX5_left_99 ?_
          refine lv_iconst (v := nI 1) hx hb dX5_left_100 rfl ?_
          refine rn_iadd hx hb dX5_left_101 ?_
          refine md_l0 C hP (by omega) dX5_left_102 ?_
          refine lv_ishl hx hb dX5_left_103 ?_
          refine lv_ior hx hb dX5_left_104 ?_
          refine lv_istore (lv' := [(4, .int (wh ||| (1 <<< ((σ 0 ((61 + (3 * i)) + 1)) &&& 31)))), (0, .ref n), (1, .int v), (2, .int t), (3, .int w), (5, .int fi), (6, .int (nI i))]) hx hb dX5_left_105 hl (by decide) rfl (fun ls hl => ?_)
          refine lv_iload hx hb dX5_left_107 (lv_at hl 5 rfl) ?_
          refine lv_iconst (v := (-1)) hx hb dX5_left_109 rfl ?_
          refine lv_icmp_ne (tgt := 130) hx hb dX5_left_110 (by decide) (fun (c_110 : ¬ fi = (-1)) => ?_) (fun (c_110 : fi = (-1)) => ?_)
          · refine lv_iload hx hb dX5_left_130 (lv_at hl 5 rfl) ?_
            refine lv_istore (lv' := [(5, .int fi), (4, .int (wh ||| (1 <<< ((σ 0 ((61 + (3 * i)) + 1)) &&& 31)))), (0, .ref n), (1, .int v), (2, .int t), (3, .int w), (6, .int (nI i))]) hx hb dX5_left_132 hl (by decide) rfl (fun ls hl => ?_)
            refine rn_iinc (lv' := [(6, .int (nI (i + 1))), (5, .int fi), (4, .int (wh ||| (1 <<< ((σ 0 ((61 + (3 * i)) + 1)) &&& 31)))), (0, .ref n), (1, .int v), (2, .int t), (3, .int w)]) hx hb dX5_left_134 hl (k := 6) rfl (by decide) rfl (fun ls hl => ?_)
            refine lv_goto (tgt := 59) hx hb dX5_left_137 (by decide) ?_
            exact ih59 _ (by omega) (wh ||| (1 <<< ((σ 0 ((61 + (3 * i)) + 1)) &&& 31))) fi (i + 1) _ _ rfl U (by omega) (by simp only [rv_lw]; first | rw [if_pos c_83, hw] | rw [if_neg c_83, hw]) (by simp only [rv_lf]; first | rw [if_neg c_83, hf] | (rw [← hf, if_pos c_83, if_pos c_110]; done) | (rw [← hf, if_pos c_83, if_neg c_110]; done)) hP hS ls (lv_sub hl [3, 4, 5, 6, 2, 1, 0] rfl)
          · refine lv_aload_n hx hb dX5_left_113 rfl (lv_at hl 1 rfl) ?_
            refine md_g0 C hP dX5_left_114 ?_
            refine lv_bipush (v := nI 61) hx hb dX5_left_117 rfl ?_
            refine lv_iconst (v := nI 3) hx hb dX5_left_119 rfl ?_
            refine lv_iload hx hb dX5_left_120 (lv_at hl 6 rfl) ?_
            refine rn_imul hx hb dX5_left_122 ?_
            refine rn_iadd hx hb dX5_left_123 ?_
            refine lv_iconst (v := nI 2) hx hb dX5_left_124 rfl ?_
            refine rn_iadd hx hb dX5_left_125 ?_
            refine md_l0 C hP (by omega) dX5_left_126 ?_
            refine lv_goto (tgt := 132) hx hb dX5_left_127 (by decide) ?_
            refine lv_istore (lv' := [(5, .int (σ 0 ((61 + (3 * i)) + 2))), (4, .int (wh ||| (1 <<< ((σ 0 ((61 + (3 * i)) + 1)) &&& 31)))), (0, .ref n), (1, .int v), (2, .int t), (3, .int w), (6, .int (nI i))]) hx hb dX5_left_132 hl (by decide) rfl (fun ls hl => ?_)
            refine rn_iinc (lv' := [(6, .int (nI (i + 1))), (5, .int (σ 0 ((61 + (3 * i)) + 2))), (4, .int (wh ||| (1 <<< ((σ 0 ((61 + (3 * i)) + 1)) &&& 31)))), (0, .ref n), (1, .int v), (2, .int t), (3, .int w)]) hx hb dX5_left_134 hl (k := 6) rfl (by decide) rfl (fun ls hl => ?_)
            refine lv_goto (tgt := 59) hx hb dX5_left_137 (by decide) ?_
            exact ih59 _ (by omega) (wh ||| (1 <<< ((σ 0 ((61 + (3 * i)) + 1)) &&& 31))) (σ 0 ((61 + (3 * i)) + 2)) (i + 1) _ _ rfl U (by omega) (by simp only [rv_lw]; first | rw [if_pos c_83, hw] | rw [if_neg c_83, hw]) (by simp only [rv_lf]; first | rw [if_neg c_83, hf] | (rw [← hf, if_pos c_83, if_pos c_110]; done) | (rw [← hf, if_pos c_83, if_neg c_110]; done)) hP hS ls (lv_sub hl [3, 4, 5, 6, 2, 1, 0] rfl)
  refine lv_aload_n hx hb dX5_left_0 rfl (lv_at hl 0 rfl) ?_
  refine lv_iload_n hx hb dX5_left_1 rfl (lv_at hl 1 rfl) ?_
  refine md_cSe (As := [.int v]) (rest := []) C hP (met_isView l dC dI dA n σ ab be v) card_isView rfl rfl ⟨Nat.le_of_ble_eq_true rfl, Nat.le_of_ble_eq_true rfl⟩ hl.1 (Nat.le_of_ble_eq_true rfl) dX5_left_2 ?_
  refine rn_zt (tgt := 43) hx hb dX5_left_5 (by decide) (fun c_5 => ?_) (fun c_5 => ?_)
  · refine lv_aload_n hx hb dX5_left_43 rfl (lv_at hl 0 rfl) ?_
    refine lv_bipush (v := (-10)) hx hb dX5_left_44 rfl ?_
    refine md_cWe (As := [.int (-10)]) (rest := []) C hP hS (met_bad l dC dI dA n σ ab be (-10)) card_bad rfl rfl ⟨Nat.le_of_ble_eq_true rfl, Nat.le_of_ble_eq_true rfl⟩ hl.1 (Nat.le_of_ble_eq_true rfl) dX5_left_46 (fun H locs hP hS => ?_)
    exact md_ri C hr hlk hP hS dX5_left_49 (by first | (rw [sp_left, if_neg (rv_nf c_5)]; exact ⟨rfl, rfl⟩) | (rw [sp_left, if_pos c_5, if_neg (rv_nf c_17)]; exact ⟨rfl, rfl⟩) | (rw [sp_left, if_pos c_5, if_pos c_17, hv, rv_cln (show j < 2 ^ 31 by omega), if_pos c_30]; exact ⟨rfl, rfl⟩) | (rw [sp_left, if_pos c_5, if_pos c_17, hv, rv_cln (show j < 2 ^ 31 by omega), if_neg c_30, if_neg (rv_nf c_40)]; exact ⟨rfl, rfl⟩))
  · obtain ⟨j, hj, hv⟩ := rv_isx h0 hm c_5
    refine lv_iload_n hx hb dX5_left_8 rfl (lv_at hl 2 rfl) ?_
    refine lv_i2l hx hb dX5_left_9 rfl ?_
    refine lv_lconst (v := 0) hx hb dX5_left_10 rfl ?_
    refine lv_ldc2 (v := 7) hx hb hown (hts _ q1097) dX5_left_11 ?_
    refine md_sSe (As := [.long (Int32.toInt64 t), .long 0, .long 7]) (rest := []) C (met_in l (Int32.toInt64 t) 0 7) card_in rfl rfl ⟨Nat.le_of_ble_eq_true rfl, Nat.le_of_ble_eq_true rfl⟩ hl.1 (Nat.le_of_ble_eq_true rfl) dX5_left_14 ?_
    refine rn_zt (tgt := 43) hx hb dX5_left_17 (by decide) (fun c_17 => ?_) (fun c_17 => ?_)
    · refine lv_aload_n hx hb dX5_left_43 rfl (lv_at hl 0 rfl) ?_
      refine lv_bipush (v := (-10)) hx hb dX5_left_44 rfl ?_
      refine md_cWe (As := [.int (-10)]) (rest := []) C hP hS (met_bad l dC dI dA n σ ab be (-10)) card_bad rfl rfl ⟨Nat.le_of_ble_eq_true rfl, Nat.le_of_ble_eq_true rfl⟩ hl.1 (Nat.le_of_ble_eq_true rfl) dX5_left_46 (fun H locs hP hS => ?_)
      exact md_ri C hr hlk hP hS dX5_left_49 (by first | (rw [sp_left, if_neg (rv_nf c_5)]; exact ⟨rfl, rfl⟩) | (rw [sp_left, if_pos c_5, if_neg (rv_nf c_17)]; exact ⟨rfl, rfl⟩) | (rw [sp_left, if_pos c_5, if_pos c_17, hv, rv_cln (show j < 2 ^ 31 by omega), if_pos c_30]; exact ⟨rfl, rfl⟩) | (rw [sp_left, if_pos c_5, if_pos c_17, hv, rv_cln (show j < 2 ^ 31 by omega), if_neg c_30, if_neg (rv_nf c_40)]; exact ⟨rfl, rfl⟩))
    · refine lv_aload_n hx hb dX5_left_20 rfl (lv_at hl 0 rfl) ?_
      refine lv_iload_n hx hb dX5_left_21 rfl (lv_at hl 1 rfl) ?_
      refine rn_co (y := nI j) hv ?_
      refine lv_iconst (v := nI 5) hx hb dX5_left_22 rfl ?_
      refine md_cSe (As := [.int (nI j), .int (nI 5)]) (rest := []) C hP (met_viewHas l dC dI dA n σ ab be j 5 (by omega) (by omega)) card_viewHas rfl rfl ⟨Nat.le_of_ble_eq_true rfl, Nat.le_of_ble_eq_true rfl⟩ hl.1 (Nat.le_of_ble_eq_true rfl) dX5_left_23 ?_
      refine lv_iload_n hx hb dX5_left_26 rfl (lv_at hl 2 rfl) ?_
      refine lv_ishr hx hb dX5_left_27 ?_
      refine lv_iconst (v := nI 1) hx hb dX5_left_28 rfl ?_
      refine lv_iand hx hb dX5_left_29 ?_
      refine lv_if_eq (tgt := 43) hx hb dX5_left_30 (by decide) (fun (c_30 : ((σ 0 (7 + 6 * j + 5)) >>> (t &&& 31)) &&& 1 = 0) => ?_) (fun (c_30 : ¬ ((σ 0 (7 + 6 * j + 5)) >>> (t &&& 31)) &&& 1 = 0) => ?_)
      · refine lv_aload_n hx hb dX5_left_43 rfl (lv_at hl 0 rfl) ?_
        refine lv_bipush (v := (-10)) hx hb dX5_left_44 rfl ?_
        refine md_cWe (As := [.int (-10)]) (rest := []) C hP hS (met_bad l dC dI dA n σ ab be (-10)) card_bad rfl rfl ⟨Nat.le_of_ble_eq_true rfl, Nat.le_of_ble_eq_true rfl⟩ hl.1 (Nat.le_of_ble_eq_true rfl) dX5_left_46 (fun H locs hP hS => ?_)
        exact md_ri C hr hlk hP hS dX5_left_49 (by first | (rw [sp_left, if_neg (rv_nf c_5)]; exact ⟨rfl, rfl⟩) | (rw [sp_left, if_pos c_5, if_neg (rv_nf c_17)]; exact ⟨rfl, rfl⟩) | (rw [sp_left, if_pos c_5, if_pos c_17, hv, rv_cln (show j < 2 ^ 31 by omega), if_pos c_30]; exact ⟨rfl, rfl⟩) | (rw [sp_left, if_pos c_5, if_pos c_17, hv, rv_cln (show j < 2 ^ 31 by omega), if_neg c_30, if_neg (rv_nf c_40)]; exact ⟨rfl, rfl⟩))
      · refine lv_iload_n hx hb dX5_left_33 rfl (lv_at hl 3 rfl) ?_
        refine lv_i2l hx hb dX5_left_34 rfl ?_
        refine lv_lconst (v := 0) hx hb dX5_left_35 rfl ?_
        refine lv_lconst (v := 1) hx hb dX5_left_36 rfl ?_
        refine md_sSe (As := [.long (Int32.toInt64 w), .long 0, .long 1]) (rest := []) C (met_in l (Int32.toInt64 w) 0 1) card_in rfl rfl ⟨Nat.le_of_ble_eq_true rfl, Nat.le_of_ble_eq_true rfl⟩ hl.1 (Nat.le_of_ble_eq_true rfl) dX5_left_37 ?_
        refine rn_zf (tgt := 50) hx hb dX5_left_40 (by decide) (fun c_40 => ?_) (fun c_40 => ?_)
        · have U : sp_left σ v t w = (if w = 0 then rv_lw (σ 0) v hs_ else rv_lf (σ 0) v hs_, σ) := by rw [sp_left, if_pos c_5, if_pos c_17, hv, rv_cln (show j < 2 ^ 31 by omega), if_neg c_30, if_pos c_40, h4, rv_cln (by omega)]
          refine lv_iconst (v := nI 0) hx hb dX5_left_50 rfl ?_
          refine lv_istore (lv' := [(4, .int (nI 0)), (0, .ref n), (1, .int v), (2, .int t), (3, .int w)]) hx hb dX5_left_51 hl (by decide) rfl (fun ls hl => ?_)
          refine lv_iconst (v := (-1)) hx hb dX5_left_53 rfl ?_
          refine lv_istore (lv' := [(5, .int (-1)), (4, .int (nI 0)), (0, .ref n), (1, .int v), (2, .int t), (3, .int w)]) hx hb dX5_left_54 hl (by decide) rfl (fun ls hl => ?_)
          refine lv_iconst (v := nI 0) hx hb dX5_left_56 rfl ?_
          refine lv_istore (lv' := [(6, .int (nI 0)), (5, .int (-1)), (4, .int (nI 0)), (0, .ref n), (1, .int v), (2, .int t), (3, .int w)]) hx hb dX5_left_57 hl (by decide) rfl (fun ls hl => ?_)
          exact K59 _ (nI 0) (-1) 0 _ _ rfl U (by omega) rfl rfl hP hS ls (lv_sub hl [3, 4, 5, 6, 2, 1, 0] rfl)
        · refine lv_aload_n hx hb dX5_left_43 rfl (lv_at hl 0 rfl) ?_
          refine lv_bipush (v := (-10)) hx hb dX5_left_44 rfl ?_
          refine md_cWe (As := [.int (-10)]) (rest := []) C hP hS (met_bad l dC dI dA n σ ab be (-10)) card_bad rfl rfl ⟨Nat.le_of_ble_eq_true rfl, Nat.le_of_ble_eq_true rfl⟩ hl.1 (Nat.le_of_ble_eq_true rfl) dX5_left_46 (fun H locs hP hS => ?_)
          exact md_ri C hr hlk hP hS dX5_left_49 (by first | (rw [sp_left, if_neg (rv_nf c_5)]; exact ⟨rfl, rfl⟩) | (rw [sp_left, if_pos c_5, if_neg (rv_nf c_17)]; exact ⟨rfl, rfl⟩) | (rw [sp_left, if_pos c_5, if_pos c_17, hv, rv_cln (show j < 2 ^ 31 by omega), if_pos c_30]; exact ⟨rfl, rfl⟩) | (rw [sp_left, if_pos c_5, if_pos c_17, hv, rv_cln (show j < 2 ^ 31 by omega), if_neg c_30, if_neg (rv_nf c_40)]; exact ⟨rfl, rfl⟩))
theorem met_mayBe (l : Launch) (dC : Nat → ClassId) (dI : Nat → Nat → Nat) (dA : Nat → ClassId) (n : Nat) (σ : mdT) (ab be : Int64) (v : Int32) (kd : Int32) (we : Int32) (rd : Nat) (h5 : σ 0 5 = nI rd) (hd6 : rd ≤ 6) : Met l yX5_mayBe (ws_ yX5_mayBe cX5_mayBe 7 (some .boolean)) { frames := 3, cells := 0, slots := 0, locals := 180 } (mdPc dC dI dA n σ ab be [.ref n, .int v, .int kd, .int we]) (vp_Si (fun r_ => r_ = (rb_i (rv_may (σ 0) v kd we rd)))) 0 0 (fun _ => False) := by
  refine md_in (by decide) rfl (Nat.le_of_ble_eq_true rfl) (lv := [(0, .ref n), (1, .int v), (2, .int kd), (3, .int we)]) rfl ?_
  intro p e s m below meth c C hr hlk hP ls hl
  have hx := C.1
  have hb := C.2.1
  have hown := C.2.2.2.1
  have hts := C.2.2.2.2.1
  have K6 : ∀ (k6_ : Nat) (b_ : Bool) (i : Nat), rd - i = k6_ → (i ≤ rd) → (b_ = rv_may (σ 0) v kd we i) → ∀ ls, lv_has ls 7 [(0, .ref n), (1, .int v), (2, .int kd), (3, .int we), (4, .int (rb_i b_)), (5, .int (nI i))] → W p l e { frames := 3, cells := 0, slots := 0, locals := 180 } s m [.ref n, .int v, .int kd, .int we].toArray below meth c s.heap [] 0 0 (MQ below (vp_Si (fun r_ => r_ = (rb_i (rv_may (σ 0) v kd we rd)))) [.ref n, .int v, .int kd, .int we].toArray s 0 0 (fun _ => False)) (F0 m 6 ls []) := by
    intro k6_
    induction k6_ using Nat.strongRecOn with
    | _ k6_ ih6 =>
      intro b_ i hm6_ hi hb_ ls hl
      refine lv_iload hx hb dX5_mayBe_6 (lv_at hl 5 rfl) ?_
      refine lv_aload_n hx hb dX5_mayBe_8 rfl (lv_at hl 0 rfl) ?_
      refine md_g0 C hP dX5_mayBe_9 ?_
      refine lv_iconst (v := nI 5) hx hb dX5_mayBe_12 rfl ?_
      refine md_l0 C hP (by omega) dX5_mayBe_13 ?_
      refine rn_co (y := nI rd) h5 ?_
      refine rn_icmp_ge (tgt := 81) hx hb (by omega) (by omega) dX5_mayBe_14 (by decide) (fun c_14 => ?_) (fun c_14 => ?_)
      · refine lv_iload hx hb dX5_mayBe_81 (lv_at hl 4 rfl) ?_
        exact rv_rz hx hb hr hlk (rv_nar _) dX5_mayBe_83 (by rw [hb_, show i = rd by omega])
      · refine lv_bipush (v := nI 97) hx hb dX5_mayBe_17 rfl ?_
        refine lv_iconst (v := nI 3) hx hb dX5_mayBe_19 rfl ?_
        refine lv_iload hx hb dX5_mayBe_20 (lv_at hl 5 rfl) ?_
        refine rn_imul hx hb dX5_mayBe_22 ?_
        refine rn_iadd hx hb dX5_mayBe_23 ?_
        refine lv_istore (lv' := [(6, .int (nI (97 + (3 * i)))), (0, .ref n), (1, .int v), (2, .int kd), (3, .int we), (4, .int (rb_i b_)), (5, .int (nI i))]) hx hb dX5_mayBe_24 hl (by decide) rfl (fun ls hl => ?_)
        refine lv_iload hx hb dX5_mayBe_26 (lv_at hl 5 rfl) ?_
        refine rn_zt (tgt := 72) hx hb dX5_mayBe_28 (by decide) (fun c_28 => ?_) (fun c_28 => ?_)
        · refine lv_iconst (v := nI 0) hx hb dX5_mayBe_72 rfl ?_
          refine lv_istore (lv' := [(4, .int (nI 0)), (6, .int (nI (97 + (3 * i)))), (0, .ref n), (1, .int v), (2, .int kd), (3, .int we), (5, .int (nI i))]) hx hb dX5_mayBe_73 hl (by decide) rfl (fun ls hl => ?_)
          refine rn_iinc (lv' := [(5, .int (nI (i + 1))), (4, .int (nI 0)), (6, .int (nI (97 + (3 * i)))), (0, .ref n), (1, .int v), (2, .int kd), (3, .int we)]) hx hb dX5_mayBe_75 hl (k := 6) rfl (by decide) rfl (fun ls hl => ?_)
          refine lv_goto (tgt := 6) hx hb dX5_mayBe_78 (by decide) ?_
          exact ih6 _ (by omega) false (i + 1) rfl (by omega) (by simp only [rv_may]; rw [← hb_]; first | (rw [c_28]; rfl) | (simp_all; done)) ls (lv_sub hl [3, 4, 5, 6, 1, 0] rfl)
        · refine lv_aload_n hx hb dX5_mayBe_31 rfl (lv_at hl 1 rfl) ?_
          refine md_g0 C hP dX5_mayBe_32 ?_
          refine lv_iload hx hb dX5_mayBe_35 (lv_at hl 0 rfl) ?_
          refine md_l0 C hP (by omega) dX5_mayBe_37 ?_
          refine lv_iload_n hx hb dX5_mayBe_38 rfl (lv_at hl 2 rfl) ?_
          refine lv_icmp_ne (tgt := 68) hx hb dX5_mayBe_39 (by decide) (fun (c_39 : ¬ σ 0 (97 + (3 * i)) = v) => ?_) (fun (c_39 : σ 0 (97 + (3 * i)) = v) => ?_)
          · refine lv_iconst (v := nI 1) hx hb dX5_mayBe_68 rfl ?_
            refine lv_goto (tgt := 73) hx hb dX5_mayBe_69 (by decide) ?_
            refine lv_istore (lv' := [(4, .int (nI 1)), (6, .int (nI (97 + (3 * i)))), (0, .ref n), (1, .int v), (2, .int kd), (3, .int we), (5, .int (nI i))]) hx hb dX5_mayBe_73 hl (by decide) rfl (fun ls hl => ?_)
            refine rn_iinc (lv' := [(5, .int (nI (i + 1))), (4, .int (nI 1)), (6, .int (nI (97 + (3 * i)))), (0, .ref n), (1, .int v), (2, .int kd), (3, .int we)]) hx hb dX5_mayBe_75 hl (k := 6) rfl (by decide) rfl (fun ls hl => ?_)
            refine lv_goto (tgt := 6) hx hb dX5_mayBe_78 (by decide) ?_
            exact ih6 _ (by omega) true (i + 1) rfl (by omega) (by simp only [rv_may]; rw [← hb_]; first | (rw [c_28]; rfl) | (simp_all; done)) ls (lv_sub hl [3, 4, 5, 6, 1, 0] rfl)
          · refine lv_iload_n hx hb dX5_mayBe_42 rfl (lv_at hl 3 rfl) ?_
            refine lv_iload_n hx hb dX5_mayBe_43 rfl (lv_at hl 4 rfl) ?_
            refine lv_aload_n hx hb dX5_mayBe_44 rfl (lv_at hl 1 rfl) ?_
            refine md_g0 C hP dX5_mayBe_45 ?_
            refine lv_iload hx hb dX5_mayBe_48 (lv_at hl 0 rfl) ?_
            refine lv_iconst (v := nI 1) hx hb dX5_mayBe_50 rfl ?_
            refine rn_iadd hx hb dX5_mayBe_51 ?_
            refine md_l0 C hP (by omega) dX5_mayBe_52 ?_
            refine md_sSe (As := [.int kd, .int we, .int (σ 0 ((97 + (3 * i)) + 1))]) (rest := []) C (met_weatherOf l kd we (σ 0 ((97 + (3 * i)) + 1))) card_weatherOf rfl rfl ⟨Nat.le_of_ble_eq_true rfl, Nat.le_of_ble_eq_true rfl⟩ hl.1 (Nat.le_of_ble_eq_true rfl) dX5_mayBe_53 ?_
            refine lv_aload_n hx hb dX5_mayBe_56 rfl (lv_at hl 1 rfl) ?_
            refine md_g0 C hP dX5_mayBe_57 ?_
            refine lv_iload hx hb dX5_mayBe_60 (lv_at hl 0 rfl) ?_
            refine lv_iconst (v := nI 2) hx hb dX5_mayBe_62 rfl ?_
            refine rn_iadd hx hb dX5_mayBe_63 ?_
            refine md_l0 C hP (by omega) dX5_mayBe_64 ?_
            refine lv_icmp_ne (tgt := 72) hx hb dX5_mayBe_65 (by decide) (fun (c_65 : ¬ rv_weather kd we (σ 0 ((97 + (3 * i)) + 1)) = σ 0 ((97 + (3 * i)) + 2)) => ?_) (fun (c_65 : rv_weather kd we (σ 0 ((97 + (3 * i)) + 1)) = σ 0 ((97 + (3 * i)) + 2)) => ?_)
            · refine lv_iconst (v := nI 0) hx hb dX5_mayBe_72 rfl ?_
              refine lv_istore (lv' := [(4, .int (nI 0)), (6, .int (nI (97 + (3 * i)))), (0, .ref n), (1, .int v), (2, .int kd), (3, .int we), (5, .int (nI i))]) hx hb dX5_mayBe_73 hl (by decide) rfl (fun ls hl => ?_)
              refine rn_iinc (lv' := [(5, .int (nI (i + 1))), (4, .int (nI 0)), (6, .int (nI (97 + (3 * i)))), (0, .ref n), (1, .int v), (2, .int kd), (3, .int we)]) hx hb dX5_mayBe_75 hl (k := 6) rfl (by decide) rfl (fun ls hl => ?_)
              refine lv_goto (tgt := 6) hx hb dX5_mayBe_78 (by decide) ?_
              exact ih6 _ (by omega) false (i + 1) rfl (by omega) (by simp only [rv_may]; rw [← hb_]; first | (rw [c_28]; rfl) | (simp_all; done)) ls (lv_sub hl [3, 4, 5, 6, 1, 0] rfl)
            · refine lv_iconst (v := nI 1) hx hb dX5_mayBe_68 rfl ?_
              refine lv_goto (tgt := 73) hx hb dX5_mayBe_69 (by decide) ?_
              refine lv_istore (lv' := [(4, .int (nI 1)), (6, .int (nI (97 + (3 * i)))), (0, .ref n), (1, .int v), (2, .int kd), (3, .int we), (5, .int (nI i))]) hx hb dX5_mayBe_73 hl (by decide) rfl (fun ls hl => ?_)
              refine rn_iinc (lv' := [(5, .int (nI (i + 1))), (4, .int (nI 1)), (6, .int (nI (97 + (3 * i)))), (0, .ref n), (1, .int v), (2, .int kd), (3, .int we)]) hx hb dX5_mayBe_75 hl (k := 6) rfl (by decide) rfl (fun ls hl => ?_)
              refine lv_goto (tgt := 6) hx hb dX5_mayBe_78 (by decide) ?_
              exact ih6 _ (by omega) true (i + 1) rfl (by omega) (by simp only [rv_may]; rw [← hb_]; first | (rw [c_28]; rfl) | (simp_all; done)) ls (lv_sub hl [3, 4, 5, 6, 1, 0] rfl)
  refine lv_iconst (v := nI 1) hx hb dX5_mayBe_0 rfl ?_
  refine lv_istore (lv' := [(4, .int (nI 1)), (0, .ref n), (1, .int v), (2, .int kd), (3, .int we)]) hx hb dX5_mayBe_1 hl (by decide) rfl (fun ls hl => ?_)
  refine lv_iconst (v := nI 0) hx hb dX5_mayBe_3 rfl ?_
  refine lv_istore (lv' := [(5, .int (nI 0)), (4, .int (nI 1)), (0, .ref n), (1, .int v), (2, .int kd), (3, .int we)]) hx hb dX5_mayBe_4 hl (by decide) rfl (fun ls hl => ?_)
  exact K6 _ true 0 rfl (by omega) rfl ls (lv_sub hl [2, 3, 4, 5, 1, 0] rfl)
set_option maxHeartbeats 1000000 in
theorem met_is (l : Launch) (dC : Nat → ClassId) (dI : Nat → Nat → Nat) (dA : Nat → ClassId) (n : Nat) (σ : mdT) (ab be : Int64) (v : Int32) (w : Int32) (many : Nat) (h0 : σ 0 0 = nI many) (hm : many ≤ 6) (rd : Nat) (h5 : σ 0 5 = nI rd) (hd6 : rd ≤ 6) : Met l yX5_is (ws_ yX5_is cX5_is 7 (some .int)) { frames := 4, cells := 0, slots := 0, locals := 240 } (mdPc dC dI dA n σ ab be [.ref n, .int v, .int w]) (va_Qi (fun r_ u => r_ = (sp_is σ v w).1 ∧ u = (sp_is σ v w).2) (mdB dC dI dA n ab be) (mdA n)) 0 0 (mdA n) := by
  refine md_in (by decide) rfl (Nat.le_of_ble_eq_true rfl) (lv := [(0, .ref n), (1, .int v), (2, .int w)]) rfl ?_
  intro p e s m below meth c C hr hlk hP ls hl
  have hx := C.1
  have hb := C.2.1
  have hown := C.2.2.2.1
  have hts := C.2.2.2.2.1
  have hS : va_S (mdA n) s.heap s.heap [] := va_S.rf
  have K33 : ∀ (k33_ : Nat) (st : Int32) (ct : Int32) (i : Nat) (H : Heap) (locs : List Loc), 36 - i = k33_ → (rv_isV σ v = true) → (rv_inI w 0 1 = true) → (i ≤ 36) → (st = rv_isset (rv_pair (σ 0) rd v) i) → (ct = rv_iscnt (rv_pair (σ 0) rd v) i) → mdP dC dI dA n σ ab be H → va_S (mdA n) s.heap H locs → ∀ ls, lv_has ls 7 [(0, .ref n), (1, .int v), (2, .int w), (3, .int st), (4, .int ct), (5, .int (nI i))] → W p l e { frames := 4, cells := 0, slots := 0, locals := 240 } s m [.ref n, .int v, .int w].toArray below meth c H locs 0 0 (MQ below (va_Qi (fun r_ u => r_ = (sp_is σ v w).1 ∧ u = (sp_is σ v w).2) (mdB dC dI dA n ab be) (mdA n)) [.ref n, .int v, .int w].toArray s 0 0 (mdA n)) (F0 m 33 ls []) := by
    intro k33_
    induction k33_ using Nat.strongRecOn with
    | _ k33_ ih33 =>
      intro st ct i H locs hm33_ h1_ h2_ hi hst hct hP hS ls hl
      refine lv_iload hx hb dX5_is_33 (lv_at hl 5 rfl) ?_
      refine lv_bipush (v := nI 36) hx hb dX5_is_35 rfl ?_
      refine rn_icmp_ge (tgt := 97) hx hb (by omega) (by omega) dX5_is_37 (by decide) (fun c_37 => ?_) (fun c_37 => ?_)
      · refine lv_iload_n hx hb dX5_is_97 rfl (lv_at hl 2 rfl) ?_
        refine lv_if_ne (tgt := 105) hx hb dX5_is_98 (by decide) (fun (c_98 : ¬ w = 0) => ?_) (fun (c_98 : w = 0) => ?_)
        · refine lv_iload hx hb dX5_is_105 (lv_at hl 4 rfl) ?_
          exact md_ri C hr hlk hP hS dX5_is_107 (by have ei : i = 36 := (by omega); subst ei; rw [sp_is, if_pos h1_, if_pos h2_, h5, rv_cln (by omega)]; first | (rw [if_pos c_98]; exact ⟨hst, rfl⟩) | (rw [if_neg c_98]; exact ⟨hct, rfl⟩))
        · refine lv_iload_n hx hb dX5_is_101 rfl (lv_at hl 3 rfl) ?_
          refine lv_goto (tgt := 107) hx hb dX5_is_102 (by decide) ?_
          exact md_ri C hr hlk hP hS dX5_is_107 (by have ei : i = 36 := (by omega); subst ei; rw [sp_is, if_pos h1_, if_pos h2_, h5, rv_cln (by omega)]; first | (rw [if_pos c_98]; exact ⟨hst, rfl⟩) | (rw [if_neg c_98]; exact ⟨hct, rfl⟩))
      · refine lv_aload_n hx hb dX5_is_40 rfl (lv_at hl 0 rfl) ?_
        refine lv_iload_n hx hb dX5_is_41 rfl (lv_at hl 1 rfl) ?_
        refine lv_iload hx hb dX5_is_42 (lv_at hl 5 rfl) ?_
        refine lv_bipush (v := nI 6) hx hb dX5_is_44 rfl ?_
        refine rn_idiv hx hb (by omega) (by decide) (by decide) dX5_is_46 ?_
        refine lv_iload hx hb dX5_is_47 (lv_at hl 5 rfl) ?_
        refine lv_bipush (v := nI 6) hx hb dX5_is_49 rfl ?_
        refine rn_irem hx hb (by omega) (by decide) (by decide) dX5_is_51 ?_
        refine md_cSe (As := [.int v, .int (nI (i / 6)), .int (nI (i % 6))]) (rest := []) C hP (met_mayBe l dC dI dA n σ ab be v (nI (i / 6)) (nI (i % 6)) rd h5 hd6) card_mayBe rfl rfl ⟨Nat.le_of_ble_eq_true rfl, Nat.le_of_ble_eq_true rfl⟩ hl.1 (Nat.le_of_ble_eq_true rfl) dX5_is_52 ?_
        refine lv_istore (lv' := [(6, .int (rb_i (rv_may (σ 0) v (nI (i / 6)) (nI (i % 6)) rd))), (0, .ref n), (1, .int v), (2, .int w), (3, .int st), (4, .int ct), (5, .int (nI i))]) hx hb dX5_is_55 hl (by decide) rfl (fun ls hl => ?_)
        refine lv_iload_n hx hb dX5_is_57 rfl (lv_at hl 4 rfl) ?_
        refine lv_iload hx hb dX5_is_58 (lv_at hl 0 rfl) ?_
        refine rn_zt (tgt := 73) hx hb dX5_is_60 (by decide) (fun c_60 => ?_) (fun c_60 => ?_)
        · refine lv_iconst (v := nI 0) hx hb dX5_is_73 rfl ?_
          refine lv_ior hx hb dX5_is_74 ?_
          refine lv_istore_n (lv' := [(3, .int (st ||| 0)), (6, .int (rb_i (rv_may (σ 0) v (nI (i / 6)) (nI (i % 6)) rd))), (0, .ref n), (1, .int v), (2, .int w), (4, .int ct), (5, .int (nI i))]) hx hb dX5_is_75 rfl hl (by decide) rfl (fun ls hl => ?_)
          refine lv_iload hx hb dX5_is_76 (lv_at hl 5 rfl) ?_
          refine lv_iload hx hb dX5_is_78 (lv_at hl 1 rfl) ?_
          refine rn_zt (tgt := 87) hx hb dX5_is_80 (by decide) (fun c_80 => ?_) (fun c_80 => ?_)
          · refine lv_iconst (v := nI 0) hx hb dX5_is_87 rfl ?_
            refine lv_iadd hx hb dX5_is_88 ?_
            refine lv_istore (lv' := [(4, .int (ct + 0)), (3, .int (st ||| 0)), (6, .int (rb_i (rv_may (σ 0) v (nI (i / 6)) (nI (i % 6)) rd))), (0, .ref n), (1, .int v), (2, .int w), (5, .int (nI i))]) hx hb dX5_is_89 hl (by decide) rfl (fun ls hl => ?_)
            refine rn_iinc (lv' := [(5, .int (nI (i + 1))), (4, .int (ct + 0)), (3, .int (st ||| 0)), (6, .int (rb_i (rv_may (σ 0) v (nI (i / 6)) (nI (i % 6)) rd))), (0, .ref n), (1, .int v), (2, .int w)]) hx hb dX5_is_91 hl (k := 6) rfl (by decide) rfl (fun ls hl => ?_)
            refine lv_goto (tgt := 33) hx hb dX5_is_94 (by decide) ?_
            exact ih33 _ (by omega) (st ||| 0) (ct + 0) (i + 1) _ _ rfl h1_ h2_ (by omega) (by simp only [rv_isset]; rw [← hst]; first | (rw [if_pos (show rv_pair (σ 0) rd v i = true from c_60)]; done) | (rw [if_neg (rv_nf (show rv_pair (σ 0) rd v i = false from c_60))]; done)) (by simp only [rv_iscnt]; rw [← hct]; first | (rw [if_pos (show rv_pair (σ 0) rd v i = true from c_60)]; done) | (rw [if_neg (rv_nf (show rv_pair (σ 0) rd v i = false from c_60))]; done)) hP hS ls (lv_sub hl [4, 5, 6, 2, 1, 0] rfl)
          · exact absurd (c_60.symm.trans c_80) (by decide)
        · refine lv_iconst (v := nI 1) hx hb dX5_is_63 rfl ?_
          refine lv_iload hx hb dX5_is_64 (lv_at hl 6 rfl) ?_
          refine lv_bipush (v := nI 6) hx hb dX5_is_66 rfl ?_
          refine rn_idiv hx hb (by omega) (by decide) (by decide) dX5_is_68 ?_
          refine lv_ishl hx hb dX5_is_69 ?_
          refine lv_goto (tgt := 74) hx hb dX5_is_70 (by decide) ?_
          refine lv_ior hx hb dX5_is_74 ?_
          refine lv_istore_n (lv' := [(3, .int (st ||| (1 <<< ((nI (i / 6)) &&& 31)))), (6, .int (rb_i (rv_may (σ 0) v (nI (i / 6)) (nI (i % 6)) rd))), (0, .ref n), (1, .int v), (2, .int w), (4, .int ct), (5, .int (nI i))]) hx hb dX5_is_75 rfl hl (by decide) rfl (fun ls hl => ?_)
          refine lv_iload hx hb dX5_is_76 (lv_at hl 5 rfl) ?_
          refine lv_iload hx hb dX5_is_78 (lv_at hl 1 rfl) ?_
          refine rn_zt (tgt := 87) hx hb dX5_is_80 (by decide) (fun c_80 => ?_) (fun c_80 => ?_)
          · exact absurd (c_60.symm.trans c_80) (by decide)
          · refine lv_iconst (v := nI 1) hx hb dX5_is_83 rfl ?_
            refine lv_goto (tgt := 88) hx hb dX5_is_84 (by decide) ?_
            refine lv_iadd hx hb dX5_is_88 ?_
            refine lv_istore (lv' := [(4, .int (ct + 1)), (3, .int (st ||| (1 <<< ((nI (i / 6)) &&& 31)))), (6, .int (rb_i (rv_may (σ 0) v (nI (i / 6)) (nI (i % 6)) rd))), (0, .ref n), (1, .int v), (2, .int w), (5, .int (nI i))]) hx hb dX5_is_89 hl (by decide) rfl (fun ls hl => ?_)
            refine rn_iinc (lv' := [(5, .int (nI (i + 1))), (4, .int (ct + 1)), (3, .int (st ||| (1 <<< ((nI (i / 6)) &&& 31)))), (6, .int (rb_i (rv_may (σ 0) v (nI (i / 6)) (nI (i % 6)) rd))), (0, .ref n), (1, .int v), (2, .int w)]) hx hb dX5_is_91 hl (k := 6) rfl (by decide) rfl (fun ls hl => ?_)
            refine lv_goto (tgt := 33) hx hb dX5_is_94 (by decide) ?_
            exact ih33 _ (by omega) (st ||| (1 <<< ((nI (i / 6)) &&& 31))) (ct + 1) (i + 1) _ _ rfl h1_ h2_ (by omega) (by simp only [rv_isset]; rw [← hst]; first | (rw [if_pos (show rv_pair (σ 0) rd v i = true from c_60)]; done) | (rw [if_neg (rv_nf (show rv_pair (σ 0) rd v i = false from c_60))]; done)) (by simp only [rv_iscnt]; rw [← hct]; first | (rw [if_pos (show rv_pair (σ 0) rd v i = true from c_60)]; done) | (rw [if_neg (rv_nf (show rv_pair (σ 0) rd v i = false from c_60))]; done)) hP hS ls (lv_sub hl [4, 5, 6, 2, 1, 0] rfl)
  refine lv_aload_n hx hb dX5_is_0 rfl (lv_at hl 0 rfl) ?_
  refine lv_iload_n hx hb dX5_is_1 rfl (lv_at hl 1 rfl) ?_
  refine md_cSe (As := [.int v]) (rest := []) C hP (met_isView l dC dI dA n σ ab be v) card_isView rfl rfl ⟨Nat.le_of_ble_eq_true rfl, Nat.le_of_ble_eq_true rfl⟩ hl.1 (Nat.le_of_ble_eq_true rfl) dX5_is_2 ?_
  refine rn_zt (tgt := 18) hx hb dX5_is_5 (by decide) (fun c_5 => ?_) (fun c_5 => ?_)
  · refine lv_aload_n hx hb dX5_is_18 rfl (lv_at hl 0 rfl) ?_
    refine lv_bipush (v := (-2)) hx hb dX5_is_19 rfl ?_
    refine md_cWe (As := [.int (-2)]) (rest := []) C hP hS (met_bad l dC dI dA n σ ab be (-2)) card_bad rfl rfl ⟨Nat.le_of_ble_eq_true rfl, Nat.le_of_ble_eq_true rfl⟩ hl.1 (Nat.le_of_ble_eq_true rfl) dX5_is_21 (fun H locs hP hS => ?_)
    exact md_ri C hr hlk hP hS dX5_is_24 (by first | (rw [sp_is, if_neg (rv_nf c_5)]; exact ⟨rfl, rfl⟩) | (rw [sp_is, if_pos c_5, if_neg (rv_nf c_15)]; exact ⟨rfl, rfl⟩))
  · refine lv_iload_n hx hb dX5_is_8 rfl (lv_at hl 2 rfl) ?_
    refine lv_i2l hx hb dX5_is_9 rfl ?_
    refine lv_lconst (v := 0) hx hb dX5_is_10 rfl ?_
    refine lv_lconst (v := 1) hx hb dX5_is_11 rfl ?_
    refine md_sSe (As := [.long (Int32.toInt64 w), .long 0, .long 1]) (rest := []) C (met_in l (Int32.toInt64 w) 0 1) card_in rfl rfl ⟨Nat.le_of_ble_eq_true rfl, Nat.le_of_ble_eq_true rfl⟩ hl.1 (Nat.le_of_ble_eq_true rfl) dX5_is_12 ?_
    refine rn_zf (tgt := 25) hx hb dX5_is_15 (by decide) (fun c_15 => ?_) (fun c_15 => ?_)
    · refine lv_iconst (v := nI 0) hx hb dX5_is_25 rfl ?_
      refine lv_istore_n (lv' := [(3, .int (nI 0)), (0, .ref n), (1, .int v), (2, .int w)]) hx hb dX5_is_26 rfl hl (by decide) rfl (fun ls hl => ?_)
      refine lv_iconst (v := nI 0) hx hb dX5_is_27 rfl ?_
      refine lv_istore (lv' := [(4, .int (nI 0)), (3, .int (nI 0)), (0, .ref n), (1, .int v), (2, .int w)]) hx hb dX5_is_28 hl (by decide) rfl (fun ls hl => ?_)
      refine lv_iconst (v := nI 0) hx hb dX5_is_30 rfl ?_
      refine lv_istore (lv' := [(5, .int (nI 0)), (4, .int (nI 0)), (3, .int (nI 0)), (0, .ref n), (1, .int v), (2, .int w)]) hx hb dX5_is_31 hl (by decide) rfl (fun ls hl => ?_)
      exact K33 _ (nI 0) (nI 0) 0 _ _ rfl c_5 c_15 (by omega) rfl rfl hP hS ls (lv_sub hl [3, 4, 5, 2, 1, 0] rfl)
    · refine lv_aload_n hx hb dX5_is_18 rfl (lv_at hl 0 rfl) ?_
      refine lv_bipush (v := (-2)) hx hb dX5_is_19 rfl ?_
      refine md_cWe (As := [.int (-2)]) (rest := []) C hP hS (met_bad l dC dI dA n σ ab be (-2)) card_bad rfl rfl ⟨Nat.le_of_ble_eq_true rfl, Nat.le_of_ble_eq_true rfl⟩ hl.1 (Nat.le_of_ble_eq_true rfl) dX5_is_21 (fun H locs hP hS => ?_)
      exact md_ri C hr hlk hP hS dX5_is_24 (by first | (rw [sp_is, if_neg (rv_nf c_5)]; exact ⟨rfl, rfl⟩) | (rw [sp_is, if_pos c_5, if_neg (rv_nf c_15)]; exact ⟨rfl, rfl⟩))
