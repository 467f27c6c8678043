set_option maxRecDepth 100000
/-! the Model: looking, coming -/
theorem rv_rem6N {a : Nat} (h : a < 2 ^ 31) : rv_rem6 (nI a) = nI (a % 6) := pk_rem h (by decide) (by decide)
theorem rv_weather_lt {kd we ev : Nat} (hk : kd < 6) (hw : we < 6) (he : ev < 2 ^ 20) : ∃ w : Nat, w < 6 ∧ rv_weather (nI kd) (nI we) (nI ev) = nI w := by
  have e2 : nI we + 2 * nI ev = nI (we + 2 * ev) := by rw [← nI_add, ← pk_mul]; rfl
  have hl : ∃ w : Nat, w < 6 ∧ rv_rem6 (nI we + nI ev) = nI w := ⟨(we + ev) % 6, by omega, by rw [nI_add, rv_rem6N (by omega)]⟩
  unfold rv_weather
  by_cases h1 : nI kd = 1
  · rw [if_pos h1, e2, rv_rem6N (by omega)]; exact ⟨_, Nat.mod_lt _ (by decide), rfl⟩
  · rw [if_neg h1]
    by_cases h2 : nI kd = 2
    · rw [if_pos h2]
      by_cases h3 : rv_rem6 (nI we + nI ev) = 1
      · rw [if_pos h3]; exact ⟨0, by decide, rfl⟩
      · rw [if_neg h3]; exact hl
    · rw [if_neg h2]
      by_cases h3 : nI kd = 3
      · rw [if_pos h3]; exact ⟨we, hw, rfl⟩
      · rw [if_neg h3]
        by_cases h5 : nI kd = 5
        · rw [if_pos h5]
          by_cases h6 : nI ev - nI ev / 2 * 2 = 1
          · rw [if_pos h6]; exact ⟨5, by decide, rfl⟩
          · rw [if_neg h6]; exact ⟨we, hw, rfl⟩
        · rw [if_neg h5]; exact hl
/-- of the first n pairs that may be, how many show w; the most of them -/
def rv_cnt (P : Nat → Bool) (wf : Nat → Int32) : Nat → Nat → Int32
  | 0, _ => 0
  | n + 1, w => if P n = true then (if wf n = nI w then rv_cnt P wf n w + 1 else rv_cnt P wf n w) else rv_cnt P wf n w
def rv_top (P : Nat → Bool) (wf : Nat → Int32) : Nat → Int32
  | 0 => 0
  | n + 1 => if P n = true then (if rv_cnt P wf (n + 1) (rv_cl (wf n)) ≤ rv_top P wf n then rv_top P wf n else rv_cnt P wf (n + 1) (rv_cl (wf n))) else rv_top P wf n
theorem rv_cnt_step {σ1 : mdT} {P : Nat → Bool} {wf : Nat → Int32} {i w0 : Nat} (hp : P i = true) (ew : wf i = nI w0) (hw : w0 < 6) (hc : ∀ w, w < 6 → σ1 11 w = rv_cnt P wf i w) : ∀ w, w < 6 → mdS σ1 11 w0 (σ1 11 w0 + nI 1) 11 w = rv_cnt P wf (i + 1) w := by
  intro w h
  rw [rv_cnt, if_pos hp]
  by_cases e : w = w0
  · subst e; rw [mdS_eq, if_pos ew, hc w h]; rfl
  · rw [mdS_ne e, if_neg (fun z => e ((nI_eq (by omega) (by omega)).mp (ew.symm.trans z)).symm), hc w h]
abbrev rv_wf (ev : Int32) (q : Nat) : Int32 := rv_weather (nI (q / 6)) (nI (q % 6)) ev
/-- the evening that tells most -/
def rv_look (T : Nat → Int32) (ev : Nat) : Nat → Int32 × Int32
  | 0 => (-1, 1000000)
  | n + 1 => if T n ≤ 0 then rv_look T ev n else (if (rv_look T ev n).2 ≤ T n then rv_look T ev n else (nI (ev + n), T n))
def sp_look (σ : mdT) (v : Int32) : Int32 × mdT := if rv_isV σ v = true then ((rv_look (fun i => rv_top (rv_pair (σ 0) (rv_cl (σ 0 5)) v) (rv_wf (nI (rv_cl (σ 0 2) + i))) 36) (rv_cl (σ 0 2)) 12).1, σ) else sBad (-2) σ
set_option maxHeartbeats 1000000 in
theorem met_mostLike (l : Launch) (dC : Nat → ClassId) (dI : Nat → Nat → Nat) (dA : Nat → ClassId) (n : Nat) (σ : mdT) (ab be : Int64) (v : Int32) (ev : Nat) (rd : Nat) (h5 : σ 0 5 = nI rd) (hd6 : rd ≤ 6) (hev : ev < 2 ^ 20) : Met l yX5_mostLike (ws_ yX5_mostLike cX5_mostLike 6 (some .int)) { frames := 4, cells := 0, slots := 0, locals := 240 } (mdPc dC dI dA n σ ab be [.ref n, .int v, .int (nI ev)]) (va_Qi (fun r_ u => r_ = rv_top (rv_pair (σ 0) rd v) (rv_wf (nI ev)) 36 ∧ ∀ a, a ≠ 11 → u a = σ a) (mdB dC dI dA n ab be) (mdA n)) 0 0 (mdA n) := by
  refine md_in (by decide) rfl (Nat.le_of_ble_eq_true rfl) (lv := [(0, .ref n), (1, .int v), (2, .int (nI ev))]) rfl ?_
  intro p e s m below meth c C hr hlk hP ls hl
  have hx := C.1
  have hb := C.2.1
  have hown := C.2.2.2.1
  have hts := C.2.2.2.2.1
  have hS : va_S (mdA n) s.heap s.heap [] := va_S.rf
  have K29 : ∀ (k29_ : Nat) (tp : Int32) (i : Nat) (σ1 : mdT) (H : Heap) (locs : List Loc), 36 - i = k29_ → (i ≤ 36) → (∀ a, a ≠ 11 → σ1 a = σ a) → (∀ w, w < 6 → σ1 11 w = rv_cnt (rv_pair (σ 0) rd v) (rv_wf (nI ev)) i w) → (tp = rv_top (rv_pair (σ 0) rd v) (rv_wf (nI ev)) i) → mdP dC dI dA n σ1 ab be H → va_S (mdA n) s.heap H locs → ∀ ls, lv_has ls 6 [(0, .ref n), (1, .int v), (2, .int (nI ev)), (3, .int tp), (4, .int (nI i))] → W p l e { frames := 4, cells := 0, slots := 0, locals := 240 } s m [.ref n, .int v, .int (nI ev)].toArray below meth c H locs 0 0 (MQ below (va_Qi (fun r_ u => r_ = rv_top (rv_pair (σ 0) rd v) (rv_wf (nI ev)) 36 ∧ ∀ a, a ≠ 11 → u a = σ a) (mdB dC dI dA n ab be) (mdA n)) [.ref n, .int v, .int (nI ev)].toArray s 0 0 (mdA n)) (F0 m 29 ls []) := by
    intro k29_
    induction k29_ using Nat.strongRecOn with
    | _ k29_ ih29 =>
      intro tp i σ1 H locs hm29_ hi ho hc ht hP hS ls hl
      have h5a : σ1 0 5 = nI rd := by rw [ho 0 (by decide)]; exact h5
      refine lv_iload hx hb dX5_mostLike_29 (lv_at hl 4 rfl) ?_
      refine lv_bipush (v := nI 36) hx hb dX5_mostLike_31 rfl ?_
      refine rn_icmp_ge (tgt := 110) hx hb (by omega) (by omega) dX5_mostLike_33 (by decide) (fun c_33 => ?_) (fun c_33 => ?_)
      · refine lv_iload_n hx hb dX5_mostLike_110 rfl (lv_at hl 3 rfl) ?_
        exact md_ri C hr hlk hP hS dX5_mostLike_111 (by have ei : i = 36 := (by omega); subst ei; exact ⟨ht, ho⟩)
      · refine lv_aload_n hx hb dX5_mostLike_36 rfl (lv_at hl 0 rfl) ?_
        refine lv_iload_n hx hb dX5_mostLike_37 rfl (lv_at hl 1 rfl) ?_
        refine lv_iload hx hb dX5_mostLike_38 (lv_at hl 4 rfl) ?_
        refine lv_bipush (v := nI 6) hx hb dX5_mostLike_40 rfl ?_
        refine rn_idiv hx hb (by omega) (by decide) (by decide) dX5_mostLike_42 ?_
        refine lv_iload hx hb dX5_mostLike_43 (lv_at hl 4 rfl) ?_
        refine lv_bipush (v := nI 6) hx hb dX5_mostLike_45 rfl ?_
        refine rn_irem hx hb (by omega) (by decide) (by decide) dX5_mostLike_47 ?_
        refine md_cSe (As := [.int v, .int (nI (i / 6)), .int (nI (i % 6))]) (rest := []) C hP (met_mayBe l dC dI dA n σ1 ab be v (nI (i / 6)) (nI (i % 6)) rd h5a hd6) card_mayBe rfl rfl ⟨Nat.le_of_ble_eq_true rfl, Nat.le_of_ble_eq_true rfl⟩ hl.1 (Nat.le_of_ble_eq_true rfl) dX5_mostLike_48 ?_
        refine rn_zt (tgt := 104) hx hb dX5_mostLike_51 (by decide) (fun c_51 => ?_) (fun c_51 => ?_)
        · have hp := c_51
          rw [ho 0 (by decide)] at hp
          have hp : rv_pair (σ 0) rd v i = _ := hp
          refine rn_iinc (lv' := [(4, .int (nI (i + 1))), (0, .ref n), (1, .int v), (2, .int (nI ev)), (3, .int tp)]) hx hb dX5_mostLike_104 hl (k := 4) rfl (by decide) rfl (fun ls hl => ?_)
          refine lv_goto (tgt := 29) hx hb dX5_mostLike_107 (by decide) ?_
          exact ih29 _ (by omega) tp (i + 1) σ1 _ _ rfl (by omega) (fun a h => by first | exact ho a h | (rw [mdS_row _ _ _ h]; exact ho a h)) (by first | exact (fun w h => by rw [rv_cnt, if_neg (rv_nf hp)]; exact hc w h) | exact rv_cnt_step hp ew_ hw6 hc) (by first | (rw [rv_top, if_neg (rv_nf hp)]; exact ht) | (rw [rv_top, if_pos hp, show rv_wf (nI ev) i = nI w_ from ew_, rv_cln (by omega), show rv_cnt (rv_pair (σ 0) rd v) (rv_wf (nI ev)) (i + 1) w_ = σ1 11 w_ + 1 from (by rw [rv_cnt, if_pos hp, if_pos ew_, hc w_ hw6]), ← ht]; rw [mdS_eq] at c_89; first | rw [if_pos c_89] | rw [if_neg c_89, mdS_eq])) hP hS ls (lv_sub hl [1, 2, 3, 4, 0] rfl)
        · have hp : rv_pair (σ 0) rd v i = true := by rw [ho 0 (by decide)] at c_51; exact c_51
          refine lv_iload hx hb dX5_mostLike_54 (lv_at hl 4 rfl) ?_
          refine lv_bipush (v := nI 6) hx hb dX5_mostLike_56 rfl ?_
          refine rn_idiv hx hb (by omega) (by decide) (by decide) dX5_mostLike_58 ?_
          refine lv_iload hx hb dX5_mostLike_59 (lv_at hl 4 rfl) ?_
          refine lv_bipush (v := nI 6) hx hb dX5_mostLike_61 rfl ?_
          refine rn_irem hx hb (by omega) (by decide) (by decide) dX5_mostLike_63 ?_
          refine lv_iload_n hx hb dX5_mostLike_64 rfl (lv_at hl 2 rfl) ?_
          refine md_sSe (As := [.int (nI (i / 6)), .int (nI (i % 6)), .int (nI ev)]) (rest := []) C (met_weatherOf l (nI (i / 6)) (nI (i % 6)) (nI ev)) card_weatherOf rfl rfl ⟨Nat.le_of_ble_eq_true rfl, Nat.le_of_ble_eq_true rfl⟩ hl.1 (Nat.le_of_ble_eq_true rfl) dX5_mostLike_65 ?_
          obtain ⟨w_, hw6, ew_⟩ := rv_weather_lt (kd := i / 6) (we := i % 6) (ev := ev) (by omega) (by omega) hev
          refine rn_co (y := nI w_) ew_ ?_
          refine lv_istore (lv' := [(5, .int (nI w_)), (0, .ref n), (1, .int v), (2, .int (nI ev)), (3, .int tp), (4, .int (nI i))]) hx hb dX5_mostLike_68 hl (by decide) rfl (fun ls hl => ?_)
          refine lv_aload_n hx hb dX5_mostLike_70 rfl (lv_at hl 1 rfl) ?_
          refine md_g18 C hP dX5_mostLike_71 ?_
          refine lv_iload hx hb dX5_mostLike_74 (lv_at hl 0 rfl) ?_
          refine lv_dup2_11 hx hb dX5_mostLike_76 rfl rfl ?_
          refine md_l11 C hP (by omega) dX5_mostLike_77 ?_
          refine lv_iconst (v := nI 1) hx hb dX5_mostLike_78 rfl ?_
          refine lv_iadd hx hb dX5_mostLike_79 ?_
          refine md_s11 C hP hS (by omega) dX5_mostLike_80 (fun H locs hP hS => ?_)
          refine lv_aload_n hx hb dX5_mostLike_81 rfl (lv_at hl 1 rfl) ?_
          refine md_g18 C hP dX5_mostLike_82 ?_
          refine lv_iload hx hb dX5_mostLike_85 (lv_at hl 0 rfl) ?_
          refine md_l11 C hP (by omega) dX5_mostLike_87 ?_
          refine lv_iload_n hx hb dX5_mostLike_88 rfl (lv_at hl 4 rfl) ?_
          refine lv_icmp_le (tgt := 102) hx hb dX5_mostLike_89 (by decide) (fun (c_89 : (mdS σ1 11 w_ ((σ1 11 w_) + 1)) 11 w_ ≤ tp) => ?_) (fun (c_89 : ¬ (mdS σ1 11 w_ ((σ1 11 w_) + 1)) 11 w_ ≤ tp) => ?_)
          · refine lv_iload_n hx hb dX5_mostLike_102 rfl (lv_at hl 4 rfl) ?_
            refine lv_istore_n (lv' := [(3, .int tp), (5, .int (nI w_)), (0, .ref n), (1, .int v), (2, .int (nI ev)), (4, .int (nI i))]) hx hb dX5_mostLike_103 rfl hl (by decide) rfl (fun ls hl => ?_)
            have hp := c_51
            rw [ho 0 (by decide)] at hp
            have hp : rv_pair (σ 0) rd v i = _ := hp
            refine rn_iinc (lv' := [(4, .int (nI (i + 1))), (3, .int tp), (5, .int (nI w_)), (0, .ref n), (1, .int v), (2, .int (nI ev))]) hx hb dX5_mostLike_104 hl (k := 5) rfl (by decide) rfl (fun ls hl => ?_)
            refine lv_goto (tgt := 29) hx hb dX5_mostLike_107 (by decide) ?_
            exact ih29 _ (by omega) tp (i + 1) (mdS σ1 11 w_ ((σ1 11 w_) + 1)) _ _ rfl (by omega) (fun a h => by first | exact ho a h | (rw [mdS_row _ _ _ h]; exact ho a h)) (by first | exact (fun w h => by rw [rv_cnt, if_neg (rv_nf hp)]; exact hc w h) | exact rv_cnt_step hp ew_ hw6 hc) (by first | (rw [rv_top, if_neg (rv_nf hp)]; exact ht) | (rw [rv_top, if_pos hp, show rv_wf (nI ev) i = nI w_ from ew_, rv_cln (by omega), show rv_cnt (rv_pair (σ 0) rd v) (rv_wf (nI ev)) (i + 1) w_ = σ1 11 w_ + 1 from (by rw [rv_cnt, if_pos hp, if_pos ew_, hc w_ hw6]), ← ht]; rw [mdS_eq] at c_89; first | rw [if_pos c_89] | rw [if_neg c_89, mdS_eq])) hP hS ls (lv_sub hl [3, 4, 5, 1, 0] rfl)
          · refine lv_aload_n hx hb dX5_mostLike_92 rfl (lv_at hl 1 rfl) ?_
            refine md_g18 C hP dX5_mostLike_93 ?_
            refine lv_iload hx hb dX5_mostLike_96 (lv_at hl 0 rfl) ?_
            refine md_l11 C hP (by omega) dX5_mostLike_98 ?_
            refine lv_goto (tgt := 103) hx hb dX5_mostLike_99 (by decide) ?_
            refine lv_istore_n (lv' := [(3, .int ((mdS σ1 11 w_ ((σ1 11 w_) + 1)) 11 w_)), (5, .int (nI w_)), (0, .ref n), (1, .int v), (2, .int (nI ev)), (4, .int (nI i))]) hx hb dX5_mostLike_103 rfl hl (by decide) rfl (fun ls hl => ?_)
            have hp := c_51
            rw [ho 0 (by decide)] at hp
            have hp : rv_pair (σ 0) rd v i = _ := hp
            refine rn_iinc (lv' := [(4, .int (nI (i + 1))), (3, .int ((mdS σ1 11 w_ ((σ1 11 w_) + 1)) 11 w_)), (5, .int (nI w_)), (0, .ref n), (1, .int v), (2, .int (nI ev))]) hx hb dX5_mostLike_104 hl (k := 5) rfl (by decide) rfl (fun ls hl => ?_)
            refine lv_goto (tgt := 29) hx hb dX5_mostLike_107 (by decide) ?_
            exact ih29 _ (by omega) ((mdS σ1 11 w_ ((σ1 11 w_) + 1)) 11 w_) (i + 1) (mdS σ1 11 w_ ((σ1 11 w_) + 1)) _ _ rfl (by omega) (fun a h => by first | exact ho a h | (rw [mdS_row _ _ _ h]; exact ho a h)) (by first | exact (fun w h => by rw [rv_cnt, if_neg (rv_nf hp)]; exact hc w h) | exact rv_cnt_step hp ew_ hw6 hc) (by first | (rw [rv_top, if_neg (rv_nf hp)]; exact ht) | (rw [rv_top, if_pos hp, show rv_wf (nI ev) i = nI w_ from ew_, rv_cln (by omega), show rv_cnt (rv_pair (σ 0) rd v) (rv_wf (nI ev)) (i + 1) w_ = σ1 11 w_ + 1 from (by rw [rv_cnt, if_pos hp, if_pos ew_, hc w_ hw6]), ← ht]; rw [mdS_eq] at c_89; first | rw [if_pos c_89] | rw [if_neg c_89, mdS_eq])) hP hS ls (lv_sub hl [3, 4, 5, 1, 0] rfl)
  have K5 : ∀ (k5_ : Nat) (i : Nat) (σ1 : mdT) (H : Heap) (locs : List Loc), 6 - i = k5_ → (i ≤ 6) → (∀ a, a ≠ 11 → σ1 a = σ a) → (∀ w, w < i → σ1 11 w = 0) → mdP dC dI dA n σ1 ab be H → va_S (mdA n) s.heap H locs → ∀ ls, lv_has ls 6 [(0, .ref n), (1, .int v), (2, .int (nI ev)), (3, .int (nI 0)), (4, .int (nI i))] → W p l e { frames := 4, cells := 0, slots := 0, locals := 240 } s m [.ref n, .int v, .int (nI ev)].toArray below meth c H locs 0 0 (MQ below (va_Qi (fun r_ u => r_ = rv_top (rv_pair (σ 0) rd v) (rv_wf (nI ev)) 36 ∧ ∀ a, a ≠ 11 → u a = σ a) (mdB dC dI dA n ab be) (mdA n)) [.ref n, .int v, .int (nI ev)].toArray s 0 0 (mdA n)) (F0 m 5 ls []) := by
    intro k5_
    induction k5_ using Nat.strongRecOn with
    | _ k5_ ih5 =>
      intro i σ1 H locs hm5_ hi ho hz hP hS ls hl
      refine lv_iload hx hb dX5_mostLike_5 (lv_at hl 4 rfl) ?_
      refine lv_bipush (v := nI 6) hx hb dX5_mostLike_7 rfl ?_
      refine rn_icmp_ge (tgt := 26) hx hb (by omega) (by omega) dX5_mostLike_9 (by decide) (fun c_9 => ?_) (fun c_9 => ?_)
      · refine lv_iconst (v := nI 0) hx hb dX5_mostLike_26 rfl ?_
        refine lv_istore (lv' := [(4, .int (nI 0)), (0, .ref n), (1, .int v), (2, .int (nI ev)), (3, .int (nI 0))]) hx hb dX5_mostLike_27 hl (by decide) rfl (fun ls hl => ?_)
        exact K29 _ (nI 0) 0 σ1 _ _ rfl (by omega) ho (fun w h => hz w (by omega)) rfl hP hS ls (lv_sub hl [1, 2, 3, 4, 0] rfl)
      · refine lv_aload_n hx hb dX5_mostLike_12 rfl (lv_at hl 0 rfl) ?_
        refine md_g18 C hP dX5_mostLike_13 ?_
        refine lv_iload hx hb dX5_mostLike_16 (lv_at hl 4 rfl) ?_
        refine lv_iconst (v := nI 0) hx hb dX5_mostLike_18 rfl ?_
        refine md_s11 C hP hS (by omega) dX5_mostLike_19 (fun H locs hP hS => ?_)
        refine rn_iinc (lv' := [(4, .int (nI (i + 1))), (0, .ref n), (1, .int v), (2, .int (nI ev)), (3, .int (nI 0))]) hx hb dX5_mostLike_20 hl (k := 4) rfl (by decide) rfl (fun ls hl => ?_)
        refine lv_goto (tgt := 5) hx hb dX5_mostLike_23 (by decide) ?_
        exact ih5 _ (by omega) (i + 1) (mdS σ1 11 i (nI 0)) _ _ rfl (by omega) (fun a h => by rw [mdS_row _ _ _ h]; exact ho a h) (rv_step2 hz (fun j hj h => by rw [mdS_ne (by omega)]; exact h) (by rw [mdS_eq]; rfl)) hP hS ls (lv_sub hl [1, 2, 3, 4, 0] rfl)
  refine lv_iconst (v := nI 0) hx hb dX5_mostLike_0 rfl ?_
  refine lv_istore_n (lv' := [(3, .int (nI 0)), (0, .ref n), (1, .int v), (2, .int (nI ev))]) hx hb dX5_mostLike_1 rfl hl (by decide) rfl (fun ls hl => ?_)
  refine lv_iconst (v := nI 0) hx hb dX5_mostLike_2 rfl ?_
  refine lv_istore (lv' := [(4, .int (nI 0)), (3, .int (nI 0)), (0, .ref n), (1, .int v), (2, .int (nI ev))]) hx hb dX5_mostLike_3 hl (by decide) rfl (fun ls hl => ?_)
  exact K5 _ 0 σ _ _ rfl (by omega) (fun _ _ => rfl) (fun w h => absurd h (Nat.not_lt_zero w)) hP hS ls (lv_sub hl [2, 3, 4, 1, 0] rfl)
set_option maxHeartbeats 1000000 in
theorem met_look (l : Launch) (dC : Nat → ClassId) (dI : Nat → Nat → Nat) (dA : Nat → ClassId) (n : Nat) (σ : mdT) (ab be : Int64) (v : Int32) (rd : Nat) (h5 : σ 0 5 = nI rd) (hd6 : rd ≤ 6) (evn : Nat) (h2 : σ 0 2 = nI evn) (he2 : evn < 1000) : Met l yX5_look (ws_ yX5_look cX5_look 6 (some .int)) { frames := 5, cells := 0, slots := 0, locals := 300 } (mdPc dC dI dA n σ ab be [.ref n, .int v]) (va_Qi (fun r_ u => r_ = (sp_look σ v).1 ∧ mdQ (sp_look σ v).2 u) (mdB dC dI dA n ab be) (mdA n)) 0 0 (mdA n) := by
  refine md_in (by decide) rfl (Nat.le_of_ble_eq_true rfl) (lv := [(0, .ref n), (1, .int v)]) rfl ?_
  intro p e s m below meth c C hr hlk hP ls hl
  have hx := C.1
  have hb := C.2.1
  have hown := C.2.2.2.1
  have hts := C.2.2.2.2.1
  have hS : va_S (mdA n) s.heap s.heap [] := va_S.rf
  have K28 : ∀ (k28_ : Nat) (bs : Int32) (fw : Int32) (i : Nat) (σ1 : mdT) (H : Heap) (locs : List Loc), 12 - i = k28_ → (rv_isV σ v = true) → (i ≤ 12) → (∀ a, a ≠ 11 → σ1 a = σ a) → ((bs, fw) = rv_look (fun i => rv_top (rv_pair (σ 0) rd v) (rv_wf (nI (evn + i))) 36) evn i) → mdP dC dI dA n σ1 ab be H → va_S (mdA n) s.heap H locs → ∀ ls, lv_has ls 6 [(0, .ref n), (1, .int v), (2, .int bs), (3, .int fw), (4, .int (nI (evn + i)))] → W p l e { frames := 5, cells := 0, slots := 0, locals := 300 } s m [.ref n, .int v].toArray below meth c H locs 0 0 (MQ below (va_Qi (fun r_ u => r_ = (sp_look σ v).1 ∧ mdQ (sp_look σ v).2 u) (mdB dC dI dA n ab be) (mdA n)) [.ref n, .int v].toArray s 0 0 (mdA n)) (F0 m 28 ls []) := by
    intro k28_
    induction k28_ using Nat.strongRecOn with
    | _ k28_ ih28 =>
      intro bs fw i σ1 H locs hm28_ hV hi ho hbf hP hS ls hl
      have h2a : σ1 0 2 = nI evn := by rw [ho 0 (by decide)]; exact h2
      have h5a : σ1 0 5 = nI rd := by rw [ho 0 (by decide)]; exact h5
      refine lv_iload hx hb dX5_look_28 (lv_at hl 4 rfl) ?_
      refine lv_aload_n hx hb dX5_look_30 rfl (lv_at hl 0 rfl) ?_
      refine md_g0 C hP dX5_look_31 ?_
      refine lv_iconst (v := nI 2) hx hb dX5_look_34 rfl ?_
      refine md_l0 C hP (by omega) dX5_look_35 ?_
      refine rn_co (y := nI evn) h2a ?_
      refine lv_bipush (v := nI 12) hx hb dX5_look_36 rfl ?_
      refine rn_iadd hx hb dX5_look_38 ?_
      refine rn_icmp_ge (tgt := 93) hx hb (by omega) (by omega) dX5_look_39 (by decide) (fun c_39 => ?_) (fun c_39 => ?_)
      · refine lv_iload_n hx hb dX5_look_93 rfl (lv_at hl 2 rfl) ?_
        exact md_ri C hr hlk hP hS dX5_look_94 (by have ei : i = 12 := (by omega); subst ei; rw [sp_look, if_pos hV, h5, h2, rv_cln (by omega), rv_cln (by omega), ← hbf]; exact ⟨rfl, ho 0 (by decide), ho 1 (by decide), ho 2 (by decide), ho 3 (by decide), ho 12 (by decide), congrFun (ho 15 (by decide)) 5⟩)
      · refine lv_aload_n hx hb dX5_look_42 rfl (lv_at hl 0 rfl) ?_
        refine lv_iload_n hx hb dX5_look_43 rfl (lv_at hl 1 rfl) ?_
        refine lv_iload hx hb dX5_look_44 (lv_at hl 4 rfl) ?_
        refine md_cWi (As := [.int v, .int (nI (evn + i))]) (rest := []) C hP hS (met_mostLike l dC dI dA n σ1 ab be v (evn + i) rd h5a hd6 (by omega)) card_mostLike rfl rfl ⟨Nat.le_of_ble_eq_true rfl, Nat.le_of_ble_eq_true rfl⟩ hl.1 (Nat.le_of_ble_eq_true rfl) dX5_look_46 (fun r46 s46 H locs hs46 hP hS => ?_)
        obtain ⟨er, ho46⟩ := hs46
        rw [ho 0 (by decide)] at er
        refine lv_istore (lv' := [(5, .int r46), (0, .ref n), (1, .int v), (2, .int bs), (3, .int fw), (4, .int (nI (evn + i)))]) hx hb dX5_look_49 hl (by decide) rfl (fun ls hl => ?_)
        refine lv_iload hx hb dX5_look_51 (lv_at hl 0 rfl) ?_
        refine lv_if_le (tgt := 67) hx hb dX5_look_53 (by decide) (fun (c_53 : r46 ≤ 0) => ?_) (fun (c_53 : ¬ r46 ≤ 0) => ?_)
        · refine lv_iload_n hx hb dX5_look_67 rfl (lv_at hl 3 rfl) ?_
          refine lv_istore_n (lv' := [(2, .int bs), (5, .int r46), (0, .ref n), (1, .int v), (3, .int fw), (4, .int (nI (evn + i)))]) hx hb dX5_look_68 rfl hl (by decide) rfl (fun ls hl => ?_)
          refine lv_iload hx hb dX5_look_69 (lv_at hl 1 rfl) ?_
          refine lv_if_le (tgt := 85) hx hb dX5_look_71 (by decide) (fun (c_71 : r46 ≤ 0) => ?_) (fun (c_71 : ¬ r46 ≤ 0) => ?_)
          · refine lv_iload_n hx hb dX5_look_85 rfl (lv_at hl 4 rfl) ?_
            refine lv_istore_n (lv' := [(3, .int fw), (2, .int bs), (5, .int r46), (0, .ref n), (1, .int v), (4, .int (nI (evn + i)))]) hx hb dX5_look_86 rfl hl (by decide) rfl (fun ls hl => ?_)
            refine rn_iinc (lv' := [(4, .int (nI ((evn + i) + 1))), (3, .int fw), (2, .int bs), (5, .int r46), (0, .ref n), (1, .int v)]) hx hb dX5_look_87 hl (k := 5) rfl (by decide) rfl (fun ls hl => ?_)
            refine lv_goto (tgt := 28) hx hb dX5_look_90 (by decide) ?_
            exact ih28 _ (by omega) bs fw (i + 1) s46 _ _ rfl hV (by omega) (fun a h => by rw [ho46 a h]; exact ho a h) (by simp only [rv_look]; rw [← er, ← hbf]; first | rw [if_pos c_53] | rw [if_neg c_53, if_pos c_59] | rw [if_neg c_53, if_neg c_59]) hP hS ls (lv_sub hl [4, 5, 2, 1, 0] rfl)
          · first | exact absurd c_53 c_71 | exact absurd c_71 c_53
        · refine lv_iload hx hb dX5_look_56 (lv_at hl 0 rfl) ?_
          refine lv_iload_n hx hb dX5_look_58 rfl (lv_at hl 4 rfl) ?_
          refine lv_icmp_ge (tgt := 67) hx hb dX5_look_59 (by decide) (fun (c_59 : fw ≤ r46) => ?_) (fun (c_59 : ¬ fw ≤ r46) => ?_)
          · refine lv_iload_n hx hb dX5_look_67 rfl (lv_at hl 3 rfl) ?_
            refine lv_istore_n (lv' := [(2, .int bs), (5, .int r46), (0, .ref n), (1, .int v), (3, .int fw), (4, .int (nI (evn + i)))]) hx hb dX5_look_68 rfl hl (by decide) rfl (fun ls hl => ?_)
            refine lv_iload hx hb dX5_look_69 (lv_at hl 1 rfl) ?_
            refine lv_if_le (tgt := 85) hx hb dX5_look_71 (by decide) (fun (c_71 : r46 ≤ 0) => ?_) (fun (c_71 : ¬ r46 ≤ 0) => ?_)
            · first | exact absurd c_53 c_71 | exact absurd c_71 c_53
            · refine lv_iload hx hb dX5_look_74 (lv_at hl 1 rfl) ?_
              refine lv_iload_n hx hb dX5_look_76 rfl (lv_at hl 4 rfl) ?_
              refine lv_icmp_ge (tgt := 85) hx hb dX5_look_77 (by decide) (fun (c_77 : fw ≤ r46) => ?_) (fun (c_77 : ¬ fw ≤ r46) => ?_)
              · refine lv_iload_n hx hb dX5_look_85 rfl (lv_at hl 4 rfl) ?_
                refine lv_istore_n (lv' := [(3, .int fw), (2, .int bs), (5, .int r46), (0, .ref n), (1, .int v), (4, .int (nI (evn + i)))]) hx hb dX5_look_86 rfl hl (by decide) rfl (fun ls hl => ?_)
                refine rn_iinc (lv' := [(4, .int (nI ((evn + i) + 1))), (3, .int fw), (2, .int bs), (5, .int r46), (0, .ref n), (1, .int v)]) hx hb dX5_look_87 hl (k := 5) rfl (by decide) rfl (fun ls hl => ?_)
                refine lv_goto (tgt := 28) hx hb dX5_look_90 (by decide) ?_
                exact ih28 _ (by omega) bs fw (i + 1) s46 _ _ rfl hV (by omega) (fun a h => by rw [ho46 a h]; exact ho a h) (by simp only [rv_look]; rw [← er, ← hbf]; first | rw [if_pos c_53] | rw [if_neg c_53, if_pos c_59] | rw [if_neg c_53, if_neg c_59]) hP hS ls (lv_sub hl [4, 5, 2, 1, 0] rfl)
              · first | exact absurd c_59 c_77 | exact absurd c_77 c_59
          · refine lv_iload hx hb dX5_look_62 (lv_at hl 5 rfl) ?_
            refine lv_goto (tgt := 68) hx hb dX5_look_64 (by decide) ?_
            refine lv_istore_n (lv' := [(2, .int (nI (evn + i))), (5, .int r46), (0, .ref n), (1, .int v), (3, .int fw), (4, .int (nI (evn + i)))]) hx hb dX5_look_68 rfl hl (by decide) rfl (fun ls hl => ?_)
            refine lv_iload hx hb dX5_look_69 (lv_at hl 1 rfl) ?_
            refine lv_if_le (tgt := 85) hx hb dX5_look_71 (by decide) (fun (c_71 : r46 ≤ 0) => ?_) (fun (c_71 : ¬ r46 ≤ 0) => ?_)
            · first | exact absurd c_53 c_71 | exact absurd c_71 c_53
            · refine lv_iload hx hb dX5_look_74 (lv_at hl 1 rfl) ?_
              refine lv_iload_n hx hb dX5_look_76 rfl (lv_at hl 4 rfl) ?_
              refine lv_icmp_ge (tgt := 85) hx hb dX5_look_77 (by decide) (fun (c_77 : fw ≤ r46) => ?_) (fun (c_77 : ¬ fw ≤ r46) => ?_)
              · first | exact absurd c_59 c_77 | exact absurd c_77 c_59
              · refine lv_iload hx hb dX5_look_80 (lv_at hl 1 rfl) ?_
                refine lv_goto (tgt := 86) hx hb dX5_look_82 (by decide) ?_
                refine lv_istore_n (lv' := [(3, .int r46), (2, .int (nI (evn + i))), (5, .int r46), (0, .ref n), (1, .int v), (4, .int (nI (evn + i)))]) hx hb dX5_look_86 rfl hl (by decide) rfl (fun ls hl => ?_)
                refine rn_iinc (lv' := [(4, .int (nI ((evn + i) + 1))), (3, .int r46), (2, .int (nI (evn + i))), (5, .int r46), (0, .ref n), (1, .int v)]) hx hb dX5_look_87 hl (k := 5) rfl (by decide) rfl (fun ls hl => ?_)
                refine lv_goto (tgt := 28) hx hb dX5_look_90 (by decide) ?_
                exact ih28 _ (by omega) (nI (evn + i)) r46 (i + 1) s46 _ _ rfl hV (by omega) (fun a h => by rw [ho46 a h]; exact ho a h) (by simp only [rv_look]; rw [← er, ← hbf]; first | rw [if_pos c_53] | rw [if_neg c_53, if_pos c_59] | rw [if_neg c_53, if_neg c_59]) hP hS ls (lv_sub hl [4, 5, 2, 1, 0] rfl)
  refine lv_aload_n hx hb dX5_look_0 rfl (lv_at hl 0 rfl) ?_
  refine lv_iload_n hx hb dX5_look_1 rfl (lv_at hl 1 rfl) ?_
  refine md_cSe (As := [.int v]) (rest := []) C hP (met_isView l dC dI dA n σ ab be v) card_isView rfl rfl ⟨Nat.le_of_ble_eq_true rfl, Nat.le_of_ble_eq_true rfl⟩ hl.1 (Nat.le_of_ble_eq_true rfl) dX5_look_2 ?_
  refine rn_zf (tgt := 15) hx hb dX5_look_5 (by decide) (fun c_5 => ?_) (fun c_5 => ?_)
  · refine lv_iconst (v := (-1)) hx hb dX5_look_15 rfl ?_
    refine lv_istore_n (lv' := [(2, .int (-1)), (0, .ref n), (1, .int v)]) hx hb dX5_look_16 rfl hl (by decide) rfl (fun ls hl => ?_)
    refine lv_ldc (v := 1000000) hx hb hown (hts _ q1190) dX5_look_17 ?_
    refine lv_istore_n (lv' := [(3, .int (nI 1000000)), (2, .int (-1)), (0, .ref n), (1, .int v)]) hx hb dX5_look_19 rfl hl (by decide) rfl (fun ls hl => ?_)
    refine lv_aload_n hx hb dX5_look_20 rfl (lv_at hl 2 rfl) ?_
    refine md_g0 C hP dX5_look_21 ?_
    refine lv_iconst (v := nI 2) hx hb dX5_look_24 rfl ?_
    refine md_l0 C hP (by omega) dX5_look_25 ?_
    refine rn_co (y := nI evn) h2 ?_
    refine lv_istore (lv' := [(4, .int (nI evn)), (3, .int (nI 1000000)), (2, .int (-1)), (0, .ref n), (1, .int v)]) hx hb dX5_look_26 hl (by decide) rfl (fun ls hl => ?_)
    exact K28 _ (-1) (nI 1000000) 0 σ _ _ rfl c_5 (by omega) (fun _ _ => rfl) rfl hP hS ls (lv_sub hl [3, 4, 2, 1, 0] rfl)
  · refine lv_aload_n hx hb dX5_look_8 rfl (lv_at hl 0 rfl) ?_
    refine lv_bipush (v := (-2)) hx hb dX5_look_9 rfl ?_
    refine md_cWe (As := [.int (-2)]) (rest := []) C hP hS (met_bad l dC dI dA n σ ab be (-2)) card_bad rfl rfl ⟨Nat.le_of_ble_eq_true rfl, Nat.le_of_ble_eq_true rfl⟩ hl.1 (Nat.le_of_ble_eq_true rfl) dX5_look_11 (fun H locs hP hS => ?_)
    exact md_ri C hr hlk hP hS dX5_look_14 (by first | (rw [sp_look, if_neg (rv_nf c_5)]; exact ⟨rfl, (mdQ.rf σ).bad _⟩))
theorem met_allRenters (l : Launch) (dC : Nat → ClassId) (dI : Nat → Nat → Nat) (dA : Nat → ClassId) (n : Nat) (σ : mdT) (ab be : Int64) (rent : Nat) (h1 : σ 0 1 = nI rent) (hr6 : rent ≤ 6) : Met l yX5_allRenters (ws_ yX5_allRenters cX5_allRenters 1 (some .int)) { frames := 2, cells := 0, slots := 0, locals := 120 } (mdPc dC dI dA n σ ab be [.ref n]) (vp_Si (fun r_ => r_ = (nI (2 ^ rent - 1)))) 0 0 (fun _ => False) := by
  refine md_in (by decide) rfl (Nat.le_of_ble_eq_true rfl) (lv := [(0, .ref n)]) rfl ?_
  intro p e s m below meth c C hr hlk hP ls hl
  have hx := C.1
  have hb := C.2.1
  have hown := C.2.2.2.1
  have hts := C.2.2.2.2.1
  refine lv_iconst (v := nI 1) hx hb dX5_allRenters_0 rfl ?_
  refine lv_aload_n hx hb dX5_allRenters_1 rfl (lv_at hl 0 rfl) ?_
  refine md_cSe (As := []) (rest := [.int (nI 1)]) C hP (met_renters l dC dI dA n σ ab be) card_renters rfl rfl ⟨Nat.le_of_ble_eq_true rfl, Nat.le_of_ble_eq_true rfl⟩ hl.1 (Nat.le_of_ble_eq_true rfl) dX5_allRenters_2 ?_
  refine rn_co (y := nI rent) h1 ?_
  refine lv_ishl hx hb dX5_allRenters_5 ?_
  refine lv_iconst (v := nI 1) hx hb dX5_allRenters_6 rfl ?_
  refine lv_isub hx hb dX5_allRenters_7 ?_
  exact rv_ri hx hb hr hlk dX5_allRenters_8 (b_all1 rent (by omega))
def mdCome (σ : mdT) (many hand : Nat) (ev who : Int32) (u : mdT) : Prop := (∀ a, a ≠ 8 → a ≠ 15 → u a = σ a) ∧ (∀ j, j ≠ 3 → j ≠ 4 → u 15 j = σ 15 j) ∧ u 15 3 = (rv_come (fun v r => rv_suitM σ v r ev) (σ 4) (bt who) many hand).2.1 ∧ u 15 4 = (rv_come (fun v r => rv_suitM σ v r ev) (σ 4) (bt who) many hand).2.2
set_option maxHeartbeats 4000000 in
theorem met_layCome (l : Launch) (dC : Nat → ClassId) (dI : Nat → Nat → Nat) (dA : Nat → ClassId) (n : Nat) (σ : mdT) (ab be : Int64) (ev : Int32) (who : Int32) (many : Nat) (h0 : σ 0 0 = nI many) (hm : many ≤ 6) (hand : Nat) (hh : σ 15 0 = nI hand) (hh7 : hand ≤ 7) : Met l yX5_layCome (ws_ yX5_layCome cX5_layCome 8 none) { frames := 6, cells := 0, slots := 0, locals := 360 } (mdPc dC dI dA n σ ab be [.ref n, .int ev, .int who]) (va_Qv (fun u => mdCome σ many hand ev who u) (mdB dC dI dA n ab be) (mdA n)) 0 0 (mdA n) := by
  refine md_in (by decide) rfl (Nat.le_of_ble_eq_true rfl) (lv := [(0, .ref n), (1, .int ev), (2, .int who)]) rfl ?_
  intro p e s m below meth c C hr hlk hP ls hl
  have hx := C.1
  have hb := C.2.1
  have hown := C.2.2.2.1
  have hts := C.2.2.2.2.1
  have hS : va_S (mdA n) s.heap s.heap [] := va_S.rf
  have K27 : ∀ (k27_ : Nat) (fr : Int32) (r : Nat) (σ1 : mdT) (H : Heap) (locs : List Loc), hand - r = k27_ → (r ≤ hand) → (∀ a, a ≠ 8 → a ≠ 15 → σ1 a = σ a) → (∀ r, r < hand → σ1 8 r = rv_mask (fun v => rv_suitM σ v r ev) many) → (∀ j, j ≠ 3 → j ≠ 4 → σ1 15 j = σ 15 j) → (σ1 15 3 = (rv_come (fun v r => rv_suitM σ v r ev) (σ 4) (bt who) many r).2.1) → (σ1 15 4 = (rv_come (fun v r => rv_suitM σ v r ev) (σ 4) (bt who) many r).2.2) → (∀ v, v < many → bt fr v = (rv_come (fun v r => rv_suitM σ v r ev) (σ 4) (bt who) many r).1 v) → mdP dC dI dA n σ1 ab be H → va_S (mdA n) s.heap H locs → ∀ ls, lv_has ls 8 [(0, .ref n), (1, .int ev), (2, .int who), (3, .int fr), (4, .int (nI r))] → W p l e { frames := 6, cells := 0, slots := 0, locals := 360 } s m [.ref n, .int ev, .int who].toArray below meth c H locs 0 0 (MQ below (va_Qv (fun u => mdCome σ many hand ev who u) (mdB dC dI dA n ab be) (mdA n)) [.ref n, .int ev, .int who].toArray s 0 0 (mdA n)) (F0 m 27 ls []) := by
    intro k27_
    induction k27_ using Nat.strongRecOn with
    | _ k27_ ih27 =>
      intro fr r σ1 H locs hm27_ hr_ ho hsu hk h3 h4_ hfr hP hS ls hl
      have h0a : σ1 0 0 = nI many := by rw [ho 0 (by decide) (by decide)]; exact h0
      have hha : σ1 15 0 = nI hand := by rw [hk 0 (by decide) (by decide)]; exact hh
      have h4a : σ1 4 = σ 4 := ho 4 (by decide) (by decide)
      have K128 : ∀ (b_ : Int32), (r < hand) → (b_ = rv_best1 (fun v => (rv_come (fun v r => rv_suitM σ v r ev) (σ 4) (bt who) many r).1 v && rv_suitM σ v r ev) (σ 4) many (bt who r)) → ∀ ls, lv_has ls 8 [(0, .ref n), (1, .int ev), (2, .int who), (3, .int fr), (4, .int (nI r)), (5, .int b_)] → W p l e { frames := 6, cells := 0, slots := 0, locals := 360 } s m [.ref n, .int ev, .int who].toArray below meth c H locs 0 0 (MQ below (va_Qv (fun u => mdCome σ many hand ev who u) (mdB dC dI dA n ab be) (mdA n)) [.ref n, .int ev, .int who].toArray s 0 0 (mdA n)) (F0 m 128 ls []) := by
        intro b_ hrh hb_ ls hl
        refine lv_iload hx hb dX5_layCome_128 (lv_at hl 5 rfl) ?_
        refine lv_iconst (v := (-1)) hx hb dX5_layCome_130 rfl ?_
        refine lv_icmp_eq (tgt := 169) hx hb dX5_layCome_131 (by decide) (fun (c_131 : b_ = (-1)) => ?_) (fun (c_131 : ¬ b_ = (-1)) => ?_)
        · refine rn_iinc (lv' := [(4, .int (nI (r + 1))), (0, .ref n), (1, .int ev), (2, .int who), (3, .int fr), (5, .int b_)]) hx hb dX5_layCome_169 hl (k := 4) rfl (by decide) rfl (fun ls hl => ?_)
          refine lv_goto (tgt := 27) hx hb dX5_layCome_172 (by decide) ?_
          exact ih27 _ (by omega) fr (r + 1) σ1 _ _ rfl (by omega) (fun a h8 h15 => by first | exact ho a h8 h15 | (rw [mdS_row _ _ _ h15, mdS_row _ _ _ h15]; exact ho a h8 h15)) (fun r h => by first | exact hsu r h | (rw [mdS_o _ (by decide), mdS_o _ (by decide)]; exact hsu r h)) (fun j h3 h4 => by first | exact hk j h3 h4 | (rw [mdS_ne h4, mdS_ne h3]; exact hk j h3 h4)) (by first | (rw [rv_come, ← hb_, if_pos c_131]; exact h3) | (rw [rv_come, ← hb_, if_neg c_131, mdS_ne (by decide), mdS_eq, h3])) (by first | (rw [rv_come, ← hb_, if_pos c_131]; exact h4_) | (rw [rv_come, ← hb_, if_neg c_131, mdS_eq, mdS_ne (by decide), h4_, mdS_o _ (by decide), h4a, hjb, rv_cln (by omega)])) (fun v h => by first | (rw [rv_come, ← hb_, if_pos c_131]; exact hfr v h) | (rw [rv_come, ← hb_, if_neg c_131, b_and, b_not (by omega), hfr v h, hjb, rv_cln (by omega)]; exact congrArg (fun z => _ && !z) (b_bit (show jb < 32 by omega) (by omega)))) hP hS ls (lv_sub hl [1, 2, 3, 4, 0] rfl)
        · obtain ⟨jb, hjb1, hjb⟩ := rv_best1_ne (fun z => c_131 (hb_.trans z))
          have hjbs := hjb
          rw [← hb_] at hjb
          refine lv_iload_n hx hb dX5_layCome_134 rfl (lv_at hl 3 rfl) ?_
          refine lv_iconst (v := nI 1) hx hb dX5_layCome_135 rfl ?_
          refine lv_iload hx hb dX5_layCome_136 (lv_at hl 5 rfl) ?_
          refine rn_co (y := nI jb) hjb ?_
          refine lv_ishl hx hb dX5_layCome_138 ?_
          refine lv_iconst (v := (-1)) hx hb dX5_layCome_139 rfl ?_
          refine lv_ixor hx hb dX5_layCome_140 ?_
          refine lv_iand hx hb dX5_layCome_141 ?_
          refine lv_istore_n (lv' := [(3, .int (fr &&& ((1 <<< ((nI jb) &&& 31)) ^^^ (-1)))), (0, .ref n), (1, .int ev), (2, .int who), (4, .int (nI r)), (5, .int b_)]) hx hb dX5_layCome_142 rfl hl (by decide) rfl (fun ls hl => ?_)
          refine lv_aload_n hx hb dX5_layCome_143 rfl (lv_at hl 1 rfl) ?_
          refine lv_dup hx hb dX5_layCome_144 rfl ?_
          refine md_g16 C hP dX5_layCome_145 ?_
          refine lv_iconst (v := nI 1) hx hb dX5_layCome_148 rfl ?_
          refine lv_iadd hx hb dX5_layCome_149 ?_
          refine md_p16 C hP hS dX5_layCome_150 (fun H locs hP hS => ?_)
          refine lv_aload_n hx hb dX5_layCome_153 rfl (lv_at hl 1 rfl) ?_
          refine lv_dup hx hb dX5_layCome_154 rfl ?_
          refine md_g17 C hP dX5_layCome_155 ?_
          refine lv_aload_n hx hb dX5_layCome_158 rfl (lv_at hl 1 rfl) ?_
          refine md_g6 C hP dX5_layCome_159 ?_
          refine lv_iload hx hb dX5_layCome_162 (lv_at hl 5 rfl) ?_
          refine rn_co (y := nI jb) hjb ?_
          refine md_l4 C hP (by omega) dX5_layCome_164 ?_
          refine lv_iadd hx hb dX5_layCome_165 ?_
          refine md_p17 C hP hS dX5_layCome_166 (fun H locs hP hS => ?_)
          refine rn_iinc (lv' := [(4, .int (nI (r + 1))), (3, .int (fr &&& ((1 <<< ((nI jb) &&& 31)) ^^^ (-1)))), (0, .ref n), (1, .int ev), (2, .int who), (5, .int b_)]) hx hb dX5_layCome_169 hl (k := 4) rfl (by decide) rfl (fun ls hl => ?_)
          refine lv_goto (tgt := 27) hx hb dX5_layCome_172 (by decide) ?_
          exact ih27 _ (by omega) (fr &&& ((1 <<< ((nI jb) &&& 31)) ^^^ (-1))) (r + 1) (mdS (mdS σ1 15 3 ((σ1 15 3) + 1)) 15 4 (((mdS σ1 15 3 ((σ1 15 3) + 1)) 15 4) + ((mdS σ1 15 3 ((σ1 15 3) + 1)) 4 jb))) _ _ rfl (by omega) (fun a h8 h15 => by first | exact ho a h8 h15 | (rw [mdS_row _ _ _ h15, mdS_row _ _ _ h15]; exact ho a h8 h15)) (fun r h => by first | exact hsu r h | (rw [mdS_o _ (by decide), mdS_o _ (by decide)]; exact hsu r h)) (fun j h3 h4 => by first | exact hk j h3 h4 | (rw [mdS_ne h4, mdS_ne h3]; exact hk j h3 h4)) (by first | (rw [rv_come, ← hb_, if_pos c_131]; exact h3) | (rw [rv_come, ← hb_, if_neg c_131, mdS_ne (by decide), mdS_eq, h3])) (by first | (rw [rv_come, ← hb_, if_pos c_131]; exact h4_) | (rw [rv_come, ← hb_, if_neg c_131, mdS_eq, mdS_ne (by decide), h4_, mdS_o _ (by decide), h4a, hjb, rv_cln (by omega)])) (fun v h => by first | (rw [rv_come, ← hb_, if_pos c_131]; exact hfr v h) | (rw [rv_come, ← hb_, if_neg c_131, b_and, b_not (by omega), hfr v h, hjb, rv_cln (by omega)]; exact congrArg (fun z => _ && !z) (b_bit (show jb < 32 by omega) (by omega)))) hP hS ls (lv_sub hl [2, 3, 4, 1, 0] rfl)
      have K42 : ∀ (k42_ : Nat) (b_ : Int32) (i : Nat), many - i = k42_ → (r < hand) → (i ≤ many) → (bt who r = true ∨ i = 0) → (b_ = rv_pick (fun v => (rv_come (fun v r => rv_suitM σ v r ev) (σ 4) (bt who) many r).1 v && rv_suitM σ v r ev) (σ 4) i) → ∀ ls, lv_has ls 8 [(0, .ref n), (1, .int ev), (2, .int who), (3, .int fr), (4, .int (nI r)), (5, .int b_), (6, .int (nI i))] → W p l e { frames := 6, cells := 0, slots := 0, locals := 360 } s m [.ref n, .int ev, .int who].toArray below meth c H locs 0 0 (MQ below (va_Qv (fun u => mdCome σ many hand ev who u) (mdB dC dI dA n ab be) (mdA n)) [.ref n, .int ev, .int who].toArray s 0 0 (mdA n)) (F0 m 42 ls []) := by
        intro k42_
        induction k42_ using Nat.strongRecOn with
        | _ k42_ ih42 =>
          intro b_ i hm42_ hrh hi hw hb_ ls hl
          refine lv_iload hx hb dX5_layCome_42 (lv_at hl 6 rfl) ?_
          refine lv_aload_n hx hb dX5_layCome_44 rfl (lv_at hl 0 rfl) ?_
          refine md_cSe (As := []) (rest := [.int (nI i)]) C hP (met_views l dC dI dA n σ1 ab be) card_views rfl rfl ⟨Nat.le_of_ble_eq_true rfl, Nat.le_of_ble_eq_true rfl⟩ hl.1 (Nat.le_of_ble_eq_true rfl) dX5_layCome_45 ?_
          refine rn_co (y := nI many) h0a ?_
          refine rn_icmp_ge (tgt := 128) hx hb (by omega) (by omega) dX5_layCome_48 (by decide) (fun c_48 => ?_) (fun c_48 => ?_)
          · exact K128 b_ hrh (by have ei : i = many := (by omega); rw [rv_best1]; rcases hw with hw | hw; rw [if_pos hw, hb_, ei]; rw [hw] at ei; rw [hb_, hw, ← ei]; split <;> rfl) ls (lv_sub hl [0, 1, 2, 3, 4, 5] rfl)
          · refine lv_iload_n hx hb dX5_layCome_51 rfl (lv_at hl 2 rfl) ?_
            refine lv_iload hx hb dX5_layCome_52 (lv_at hl 4 rfl) ?_
            refine lv_ishr hx hb dX5_layCome_54 ?_
            refine lv_iconst (v := nI 1) hx hb dX5_layCome_55 rfl ?_
            refine lv_iand hx hb dX5_layCome_56 ?_
            refine lv_iconst (v := nI 1) hx hb dX5_layCome_57 rfl ?_
            refine lv_icmp_ne (tgt := 128) hx hb dX5_layCome_58 (by decide) (fun (c_58 : ¬ (who >>> ((nI r) &&& 31)) &&& 1 = 1) => ?_) (fun (c_58 : (who >>> ((nI r) &&& 31)) &&& 1 = 1) => ?_)
            · exact K128 b_ hrh (by have hz : bt who r = false := (Bool.not_eq_true _).mp (fun z => c_58 ((b_low1 (by omega)).mpr z)); rw [rv_best1, if_neg (rv_nf hz), hb_]; rcases hw with hw | hw; rw [hz] at hw; exact absurd hw (by decide); rw [hw]; rfl) ls (lv_sub hl [0, 1, 2, 3, 4, 5] rfl)
            · refine lv_iload_n hx hb dX5_layCome_61 rfl (lv_at hl 3 rfl) ?_
              refine lv_aload_n hx hb dX5_layCome_62 rfl (lv_at hl 0 rfl) ?_
              refine md_g11 C hP dX5_layCome_63 ?_
              refine lv_iload hx hb dX5_layCome_66 (lv_at hl 4 rfl) ?_
              refine md_l8 C hP (by omega) dX5_layCome_68 ?_
              refine lv_iand hx hb dX5_layCome_69 ?_
              refine lv_iconst (v := nI 1) hx hb dX5_layCome_70 rfl ?_
              refine lv_iload hx hb dX5_layCome_71 (lv_at hl 6 rfl) ?_
              refine lv_ishl hx hb dX5_layCome_73 ?_
              refine lv_iand hx hb dX5_layCome_74 ?_
              refine lv_if_eq (tgt := 82) hx hb dX5_layCome_75 (by decide) (fun (c_75 : (fr &&& (σ1 8 r)) &&& (1 <<< ((nI i) &&& 31)) = 0) => ?_) (fun (c_75 : ¬ (fr &&& (σ1 8 r)) &&& (1 <<< ((nI i) &&& 31)) = 0) => ?_)
              · have hM : ((rv_come (fun v r => rv_suitM σ v r ev) (σ 4) (bt who) many r).1 i && rv_suitM σ i r ev) = false := by
                  have h := (b_tst (show i < 32 by omega)).mp c_75
                  rw [b_and, hfr i (by omega), hsu r hrh, b_mask (by omega) i (by omega), decide_eq_true (show i < many by omega), Bool.true_and] at h
                  exact h
                refine lv_iconst (v := nI 0) hx hb dX5_layCome_82 rfl ?_
                refine lv_istore (lv' := [(7, .int (nI 0)), (0, .ref n), (1, .int ev), (2, .int who), (3, .int fr), (4, .int (nI r)), (5, .int b_), (6, .int (nI i))]) hx hb dX5_layCome_83 hl (by decide) rfl (fun ls hl => ?_)
                refine lv_iload hx hb dX5_layCome_85 (lv_at hl 0 rfl) ?_
                refine rn_if_eq (tgt := 118) hx hb (by omega) dX5_layCome_87 (by decide) (fun c_87 => ?_) (fun c_87 => ?_)
                · refine lv_iload hx hb dX5_layCome_118 (lv_at hl 6 rfl) ?_
                  refine lv_istore (lv' := [(5, .int b_), (7, .int (nI 0)), (0, .ref n), (1, .int ev), (2, .int who), (3, .int fr), (4, .int (nI r)), (6, .int (nI i))]) hx hb dX5_layCome_120 hl (by decide) rfl (fun ls hl => ?_)
                  refine rn_iinc (lv' := [(6, .int (nI (i + 1))), (5, .int b_), (7, .int (nI 0)), (0, .ref n), (1, .int ev), (2, .int who), (3, .int fr), (4, .int (nI r))]) hx hb dX5_layCome_122 hl (k := 7) rfl (by decide) rfl (fun ls hl => ?_)
                  refine lv_goto (tgt := 42) hx hb dX5_layCome_125 (by decide) ?_
                  exact ih42 _ (by omega) b_ (i + 1) rfl hrh (by omega) (Or.inl ((b_low1 (by omega)).mp c_58)) (by first | (rw [rv_pick, if_neg (rv_nf hM), ← hb_]; done) | (rw [rv_pick, if_pos hM, ← hb_, if_pos c_93]; done) | (rw [rv_pick, if_pos hM, ← hb_, if_neg c_93, hjb, rv_cln (by omega)]; rw [h4a] at c_110; first | (rw [if_pos (Int32.not_le.mp c_110)]; done) | (rw [if_neg (Int32.not_lt.mpr c_110)]; done))) ls (lv_sub hl [3, 4, 5, 6, 7, 1, 0] rfl)
                · exact absurd c_87 (by decide)
              · have hM : ((rv_come (fun v r => rv_suitM σ v r ev) (σ 4) (bt who) many r).1 i && rv_suitM σ i r ev) = true := by
                  have h := fun z => c_75 ((b_tst (show i < 32 by omega)).mpr z)
                  rw [b_and, hfr i (by omega), hsu r hrh, b_mask (by omega) i (by omega), decide_eq_true (show i < many by omega), Bool.true_and] at h
                  exact (Bool.not_eq_false _).mp h
                refine lv_iconst (v := nI 1) hx hb dX5_layCome_78 rfl ?_
                refine lv_goto (tgt := 83) hx hb dX5_layCome_79 (by decide) ?_
                refine lv_istore (lv' := [(7, .int (nI 1)), (0, .ref n), (1, .int ev), (2, .int who), (3, .int fr), (4, .int (nI r)), (5, .int b_), (6, .int (nI i))]) hx hb dX5_layCome_83 hl (by decide) rfl (fun ls hl => ?_)
                refine lv_iload hx hb dX5_layCome_85 (lv_at hl 0 rfl) ?_
                refine rn_if_eq (tgt := 118) hx hb (by omega) dX5_layCome_87 (by decide) (fun c_87 => ?_) (fun c_87 => ?_)
                · exact absurd c_87 (by decide)
                · refine lv_iload hx hb dX5_layCome_90 (lv_at hl 6 rfl) ?_
                  refine lv_iconst (v := (-1)) hx hb dX5_layCome_92 rfl ?_
                  refine lv_icmp_eq (tgt := 113) hx hb dX5_layCome_93 (by decide) (fun (c_93 : b_ = (-1)) => ?_) (fun (c_93 : ¬ b_ = (-1)) => ?_)
                  · refine lv_iload hx hb dX5_layCome_113 (lv_at hl 7 rfl) ?_
                    refine lv_goto (tgt := 120) hx hb dX5_layCome_115 (by decide) ?_
                    refine lv_istore (lv' := [(5, .int (nI i)), (7, .int (nI 1)), (0, .ref n), (1, .int ev), (2, .int who), (3, .int fr), (4, .int (nI r)), (6, .int (nI i))]) hx hb dX5_layCome_120 hl (by decide) rfl (fun ls hl => ?_)
                    refine rn_iinc (lv' := [(6, .int (nI (i + 1))), (5, .int (nI i)), (7, .int (nI 1)), (0, .ref n), (1, .int ev), (2, .int who), (3, .int fr), (4, .int (nI r))]) hx hb dX5_layCome_122 hl (k := 7) rfl (by decide) rfl (fun ls hl => ?_)
                    refine lv_goto (tgt := 42) hx hb dX5_layCome_125 (by decide) ?_
                    exact ih42 _ (by omega) (nI i) (i + 1) rfl hrh (by omega) (Or.inl ((b_low1 (by omega)).mp c_58)) (by first | (rw [rv_pick, if_neg (rv_nf hM), ← hb_]; done) | (rw [rv_pick, if_pos hM, ← hb_, if_pos c_93]; done) | (rw [rv_pick, if_pos hM, ← hb_, if_neg c_93, hjb, rv_cln (by omega)]; rw [h4a] at c_110; first | (rw [if_pos (Int32.not_le.mp c_110)]; done) | (rw [if_neg (Int32.not_lt.mpr c_110)]; done))) ls (lv_sub hl [3, 4, 5, 6, 7, 1, 0] rfl)
                  · obtain ⟨jb, hjb1, hjb⟩ := rv_pick_ne (fun z => c_93 (hb_.trans z))
                    rw [← hb_] at hjb
                    refine lv_aload_n hx hb dX5_layCome_96 rfl (lv_at hl 1 rfl) ?_
                    refine md_g6 C hP dX5_layCome_97 ?_
                    refine lv_iload hx hb dX5_layCome_100 (lv_at hl 7 rfl) ?_
                    refine md_l4 C hP (by omega) dX5_layCome_102 ?_
                    refine lv_aload_n hx hb dX5_layCome_103 rfl (lv_at hl 1 rfl) ?_
                    refine md_g6 C hP dX5_layCome_104 ?_
                    refine lv_iload hx hb dX5_layCome_107 (lv_at hl 6 rfl) ?_
                    refine rn_co (y := nI jb) hjb ?_
                    refine md_l4 C hP (by omega) dX5_layCome_109 ?_
                    refine lv_icmp_le (tgt := 118) hx hb dX5_layCome_110 (by decide) (fun (c_110 : σ1 4 i ≤ σ1 4 jb) => ?_) (fun (c_110 : ¬ σ1 4 i ≤ σ1 4 jb) => ?_)
                    · refine lv_iload hx hb dX5_layCome_118 (lv_at hl 6 rfl) ?_
                      refine lv_istore (lv' := [(5, .int b_), (7, .int (nI 1)), (0, .ref n), (1, .int ev), (2, .int who), (3, .int fr), (4, .int (nI r)), (6, .int (nI i))]) hx hb dX5_layCome_120 hl (by decide) rfl (fun ls hl => ?_)
                      refine rn_iinc (lv' := [(6, .int (nI (i + 1))), (5, .int b_), (7, .int (nI 1)), (0, .ref n), (1, .int ev), (2, .int who), (3, .int fr), (4, .int (nI r))]) hx hb dX5_layCome_122 hl (k := 7) rfl (by decide) rfl (fun ls hl => ?_)
                      refine lv_goto (tgt := 42) hx hb dX5_layCome_125 (by decide) ?_
                      exact ih42 _ (by omega) b_ (i + 1) rfl hrh (by omega) (Or.inl ((b_low1 (by omega)).mp c_58)) (by first | (rw [rv_pick, if_neg (rv_nf hM), ← hb_]; done) | (rw [rv_pick, if_pos hM, ← hb_, if_pos c_93]; done) | (rw [rv_pick, if_pos hM, ← hb_, if_neg c_93, hjb, rv_cln (by omega)]; rw [h4a] at c_110; first | (rw [if_pos (Int32.not_le.mp c_110)]; done) | (rw [if_neg (Int32.not_lt.mpr c_110)]; done))) ls (lv_sub hl [3, 4, 5, 6, 7, 1, 0] rfl)
                    · refine lv_iload hx hb dX5_layCome_113 (lv_at hl 7 rfl) ?_
                      refine lv_goto (tgt := 120) hx hb dX5_layCome_115 (by decide) ?_
                      refine lv_istore (lv' := [(5, .int (nI i)), (7, .int (nI 1)), (0, .ref n), (1, .int ev), (2, .int who), (3, .int fr), (4, .int (nI r)), (6, .int (nI i))]) hx hb dX5_layCome_120 hl (by decide) rfl (fun ls hl => ?_)
                      refine rn_iinc (lv' := [(6, .int (nI (i + 1))), (5, .int (nI i)), (7, .int (nI 1)), (0, .ref n), (1, .int ev), (2, .int who), (3, .int fr), (4, .int (nI r))]) hx hb dX5_layCome_122 hl (k := 7) rfl (by decide) rfl (fun ls hl => ?_)
                      refine lv_goto (tgt := 42) hx hb dX5_layCome_125 (by decide) ?_
                      exact ih42 _ (by omega) (nI i) (i + 1) rfl hrh (by omega) (Or.inl ((b_low1 (by omega)).mp c_58)) (by first | (rw [rv_pick, if_neg (rv_nf hM), ← hb_]; done) | (rw [rv_pick, if_pos hM, ← hb_, if_pos c_93]; done) | (rw [rv_pick, if_pos hM, ← hb_, if_neg c_93, hjb, rv_cln (by omega)]; rw [h4a] at c_110; first | (rw [if_pos (Int32.not_le.mp c_110)]; done) | (rw [if_neg (Int32.not_lt.mpr c_110)]; done))) ls (lv_sub hl [3, 4, 5, 6, 7, 1, 0] rfl)
      refine lv_iload hx hb dX5_layCome_27 (lv_at hl 4 rfl) ?_
      refine lv_aload_n hx hb dX5_layCome_29 rfl (lv_at hl 0 rfl) ?_
      refine md_g7 C hP dX5_layCome_30 ?_
      refine rn_co (y := nI hand) hha ?_
      refine rn_icmp_ge (tgt := 175) hx hb (by omega) (by omega) dX5_layCome_33 (by decide) (fun c_33 => ?_) (fun c_33 => ?_)
      · exact md_rv C hr hlk hP hS dX5_layCome_175 (by have ei : r = hand := (by omega); subst ei; exact ⟨ho, hk, h3, h4_⟩)
      · refine lv_iconst (v := (-1)) hx hb dX5_layCome_36 rfl ?_
        refine lv_istore (lv' := [(5, .int (-1)), (0, .ref n), (1, .int ev), (2, .int who), (3, .int fr), (4, .int (nI r))]) hx hb dX5_layCome_37 hl (by decide) rfl (fun ls hl => ?_)
        refine lv_iconst (v := nI 0) hx hb dX5_layCome_39 rfl ?_
        refine lv_istore (lv' := [(6, .int (nI 0)), (5, .int (-1)), (0, .ref n), (1, .int ev), (2, .int who), (3, .int fr), (4, .int (nI r))]) hx hb dX5_layCome_40 hl (by decide) rfl (fun ls hl => ?_)
        exact K42 _ (-1) 0 rfl c_33 (by omega) (Or.inr rfl) rfl ls (lv_sub hl [2, 3, 4, 5, 6, 1, 0] rfl)
  refine lv_iconst (v := nI 1) hx hb dX5_layCome_0 rfl ?_
  refine lv_aload_n hx hb dX5_layCome_1 rfl (lv_at hl 0 rfl) ?_
  refine md_cSe (As := []) (rest := [.int (nI 1)]) C hP (met_views l dC dI dA n σ ab be) card_views rfl rfl ⟨Nat.le_of_ble_eq_true rfl, Nat.le_of_ble_eq_true rfl⟩ hl.1 (Nat.le_of_ble_eq_true rfl) dX5_layCome_2 ?_
  refine rn_co (y := nI many) h0 ?_
  refine lv_ishl hx hb dX5_layCome_5 ?_
  refine lv_iconst (v := nI 1) hx hb dX5_layCome_6 rfl ?_
  refine lv_isub hx hb dX5_layCome_7 ?_
  refine lv_istore_n (lv' := [(3, .int ((1 <<< ((nI many) &&& 31)) - 1)), (0, .ref n), (1, .int ev), (2, .int who)]) hx hb dX5_layCome_8 rfl hl (by decide) rfl (fun ls hl => ?_)
  refine lv_aload_n hx hb dX5_layCome_9 rfl (lv_at hl 1 rfl) ?_
  refine lv_iload_n hx hb dX5_layCome_10 rfl (lv_at hl 2 rfl) ?_
  refine md_cWv (As := [.int ev]) (rest := []) C hP hS (met_laySuit l dC dI dA n σ ab be ev many h0 hm hand hh hh7) card_laySuit rfl rfl ⟨Nat.le_of_ble_eq_true rfl, Nat.le_of_ble_eq_true rfl⟩ hl.1 (Nat.le_of_ble_eq_true rfl) dX5_layCome_11 (fun s11 H locs hs11 hP hS => ?_)
  refine lv_aload_n hx hb dX5_layCome_14 rfl (lv_at hl 1 rfl) ?_
  refine lv_iconst (v := nI 0) hx hb dX5_layCome_15 rfl ?_
  refine md_p16 C hP hS dX5_layCome_16 (fun H locs hP hS => ?_)
  refine lv_aload_n hx hb dX5_layCome_19 rfl (lv_at hl 1 rfl) ?_
  refine lv_iconst (v := nI 0) hx hb dX5_layCome_20 rfl ?_
  refine md_p17 C hP hS dX5_layCome_21 (fun H locs hP hS => ?_)
  refine lv_iconst (v := nI 0) hx hb dX5_layCome_24 rfl ?_
  refine lv_istore (lv' := [(4, .int (nI 0)), (3, .int ((1 <<< ((nI many) &&& 31)) - 1)), (0, .ref n), (1, .int ev), (2, .int who)]) hx hb dX5_layCome_25 hl (by decide) rfl (fun ls hl => ?_)
  exact K27 _ ((1 <<< ((nI many) &&& 31)) - 1) 0 (mdS (mdS s11 15 3 (nI 0)) 15 4 (nI 0)) _ _ rfl (by omega) (fun a h8 h15 => by rw [mdS_row _ _ _ h15, mdS_row _ _ _ h15]; exact hs11.1 a h8) (fun r h => by rw [mdS_o _ (by decide), mdS_o _ (by decide)]; exact hs11.2 r h) (fun j h3 h4 => by rw [mdS_ne h4, mdS_ne h3]; exact congrFun (hs11.1 15 (by decide)) j) (by rw [mdS_ne (by decide), mdS_eq]; rfl) (by rw [mdS_eq]; rfl) (fun v h => by show bt ((1 : Int32) <<< (nI many &&& 31) - nI 1) v = true; rw [b_all many (by omega) v (by omega), decide_eq_true h]) hP hS ls (lv_sub hl [2, 3, 4, 1, 0] rfl)
