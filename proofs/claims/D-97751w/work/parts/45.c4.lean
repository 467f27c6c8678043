set_option maxRecDepth 100000
/-! the component: Shops remember and take -/
theorem xkv_X1_69 : xKV RX1 yX2_takes cX2_takes 2 none 69 1 := ⟨q595, q596, q597, q63, q598, by decide +kernel⟩
/-- the first j States took those behind them -/
def wsh (S : mdT) (j : Nat) : mdT := fun i => if 11 ≤ i ∧ i < 11 + 4 * j then S (i + 4) else S i
theorem wsh_0 (S : mdT) : wsh S 0 = S := by
  funext i
  unfold wsh
  rw [if_neg (by omega)]
theorem wsh_s (S : mdT) {k : Nat} (hk : 1 ≤ k) : mdI (wsh S (k - 1)) (11 + 4 * (k - 1)) 4 (fun r => wsh S (k - 1) (11 + 4 * k + r)) = wsh S (k + 1 - 1) := by
  funext i
  unfold mdI wsh
  by_cases h : 11 + 4 * (k - 1) ≤ i ∧ i < 11 + 4 * (k - 1) + 4
  · rw [if_pos h]
    dsimp only
    rw [if_neg (by omega), if_pos (by omega)]
    congr 1
    omega
  · rw [if_neg h]
    by_cases h2 : 11 ≤ i ∧ i < 11 + 4 * (k - 1)
    · rw [if_pos h2, if_pos (by omega)]
    · rw [if_neg h2, if_neg (by omega)]
theorem mdS_self (S : mdT) {a k : Nat} {v : Int32} (h : S a k = v) : mdS S a k v = S := by
  funext i j
  rw [mdS_at]
  by_cases e : i = a ∧ j = k
  · rw [if_pos e, e.1, e.2, h]
  · rw [if_neg e]
theorem sh_keep {c many rent rd un hs ev : Nat} {f : Nat → Int32} {S S1 : mdT} (h : shR c many rent rd un hs ev f S) (h1 : S1 = mdS (wsh S (if un = 8 then 7 else 0)) 0 3 (nI (rv_m7 un))) : shR c many rent rd (rv_m7 un + 1) hs ev (rv_keep f un) (mdS (mdI S1 (11 + 4 * rv_m7 un) 4 (fun r => S1 (6 + r))) 0 3 (nI (rv_m7 un + 1))) := by
  have hm6 := h.m6
  have hr6 := h.r6
  have hs12 := h.h12
  have hd6 := h.d6
  have hu8 := h.u8
  have hm7 : rv_m7 un ≤ 7 := by unfold rv_m7; split <;> omega
  have lo : ∀ i, i < 11 → i ≠ 0 → S1 i = S i := fun i hi h0 => by
    rw [h1, mdS_row _ _ _ h0]; unfold wsh; rw [if_neg (by omega)]
  have r0 : ∀ k, k ≠ 3 → S1 0 k = S 0 k := fun k hk => by
    rw [h1, mdS_ne hk]; unfold wsh; rw [if_neg (by omega)]
  have fk : ∀ k, k ≠ 6 → k < 115 → rv_keep f un k = f k := fun k h6 hk => by
    unfold rv_keep rv_shift; rw [if_neg h6, if_neg (by omega), if_neg (by omega)]
  have R : ∀ i, i ≠ 0 → (i < 11 + 4 * rv_m7 un ∨ 11 + 4 * rv_m7 un + 4 ≤ i) → (mdS (mdI S1 (11 + 4 * rv_m7 un) 4 (fun r => S1 (6 + r))) 0 3 (nI (rv_m7 un + 1))) i = S1 i := fun i h0 hi => by
    rw [mdS_row _ _ _ h0, mdI_out _ _ hi]
  have R0 : ∀ k, k ≠ 3 → (mdS (mdI S1 (11 + 4 * rv_m7 un) 4 (fun r => S1 (6 + r))) 0 3 (nI (rv_m7 un + 1))) 0 k = S1 0 k := fun k hk => by
    rw [mdS_ne hk, mdI_out _ _ (by omega)]
  refine ⟨⟨h.m6, h.r6, h.d6, by omega⟩, ⟨by rw [fk 0 (by omega) (by omega)]; exact h.f0, by rw [fk 1 (by omega) (by omega)]; exact h.f1, by rw [fk 5 (by omega) (by omega)]; exact h.f5, rfl⟩, ⟨by rw [R0 0 (by omega), r0 0 (by omega)]; exact h.nm, by rw [R0 1 (by omega), r0 1 (by omega)]; exact h.nr, by rw [R0 2 (by omega), r0 2 (by omega)]; exact h.nd, mdS_eq _ _ _ _⟩, fun v hv => ?_, fun r hr => ?_, fun k hk => ?_, ?_, fun k hk => ?_⟩
  · rw [R 2 (by omega) (by omega), lo 2 (by omega) (by omega), fk _ (by omega) (by omega)]; exact h.thg hv
  · rw [R 3 (by omega) (by omega), lo 3 (by omega) (by omega), R 4 (by omega) (by omega), lo 4 (by omega) (by omega), fk _ (by omega) (by omega), fk _ (by omega) (by omega)]; exact ⟨h.wal hr, h.wan hr⟩
  · rw [R 5 (by omega) (by omega), lo 5 (by omega) (by omega), fk _ (by omega) (by omega)]; exact h.rea hk
  · refine h.now.cg (fun r hr => ?_) (fun j hj => ?_) h.m6 h.r6
    · show (mdS (mdI S1 (11 + 4 * rv_m7 un) 4 (fun r => S1 (6 + r))) 0 3 (nI (rv_m7 un + 1))) (6 + r) = S (6 + r)
      rw [R _ (by omega) (by omega), lo _ (by omega) (by omega)]
    · unfold rv_snap
      by_cases a1 : j < 6
      · rw [if_pos a1, if_pos a1]; exact fk _ (by omega) (by omega)
      rw [if_neg a1, if_neg a1]
      by_cases a2 : j < 12
      · rw [if_pos a2, if_pos a2]; exact fk _ (by omega) (by omega)
      rw [if_neg a2, if_neg a2, fk 2 (by omega) (by omega), fk 3 (by omega) (by omega), fk 4 (by omega) (by omega), fk (61 + (j - 15)) (by omega) (by omega)]
  · by_cases e : k = rv_m7 un
    · subst e
      refine ⟨hs, ev, h.now.cg (fun r hr => ?_) (fun j hj => ?_) h.m6 h.r6⟩
      · show (mdS (mdI S1 (11 + 4 * rv_m7 un) 4 (fun r => S1 (6 + r))) 0 3 (nI (rv_m7 un + 1))) (11 + 4 * rv_m7 un + r) = S (6 + r)
        rw [mdS_row _ _ _ (by omega), mdI_in _ _ hr, lo _ (by omega) (by omega)]
      · show rv_keep f un (115 + 51 * rv_m7 un + j) = _
        unfold rv_keep
        rw [if_neg (by omega), if_pos (by omega)]
        congr 1
        omega
    · by_cases h8 : un = 8
      · have e7 : rv_m7 un = 7 := by unfold rv_m7; rw [if_pos h8]
        obtain ⟨x, y, q⟩ := h.was (k := k + 1) (by omega)
        refine ⟨x, y, q.cg (fun r hr => ?_) (fun j hj => ?_) h.m6 h.r6⟩
        · show (mdS (mdI S1 (11 + 4 * rv_m7 un) 4 (fun r => S1 (6 + r))) 0 3 (nI (rv_m7 un + 1))) (11 + 4 * k + r) = S (11 + 4 * (k + 1) + r)
          rw [R _ (by omega) (by omega), h1, mdS_row _ _ _ (by omega), if_pos h8]
          unfold wsh
          rw [if_pos (by omega)]
          congr 1
          omega
        · show rv_keep f un (115 + 51 * k + j) = f (115 + 51 * (k + 1) + j)
          unfold rv_keep rv_shift
          rw [if_neg (by omega), if_neg (by omega), if_pos (by omega)]
          congr 1
          omega
      · have e7 : rv_m7 un = un := by unfold rv_m7; rw [if_neg h8]
        obtain ⟨x, y, q⟩ := h.was (k := k) (by omega)
        refine ⟨x, y, q.cg (fun r hr => ?_) (fun j hj => ?_) h.m6 h.r6⟩
        · show (mdS (mdI S1 (11 + 4 * rv_m7 un) 4 (fun r => S1 (6 + r))) 0 3 (nI (rv_m7 un + 1))) (11 + 4 * k + r) = S (11 + 4 * k + r)
          rw [R _ (by omega) (by omega), h1, mdS_row _ _ _ (by omega), if_neg h8, wsh_0]
        · show rv_keep f un (115 + 51 * k + j) = f (115 + 51 * k + j)
          unfold rv_keep rv_shift
          rw [if_neg (by omega), if_neg (by omega), if_neg (by omega)]
theorem x_X1_remembers (l : Launch) (dC : Nat → ClassId) (dI : Nat → Nat → Nat) (dA : Nat → ClassId) (b : Nat) (S : mdT) (V : Nat → Option Nat) (c : Nat) (many : Nat) (rent : Nat) (rd : Nat) (un : Nat) (hs : Nat) (ev : Nat) (f : Nat → Int32) (hR : shR c many rent rd un hs ev f S) : Met l yX1_remembers (ws_ yX1_remembers cX1_remembers 2 none) { frames := 3, cells := 0, slots := 0, locals := 180 } (xPc dC dI dA (bkP dC dI b 43 (sbE dA b S V)) [.ref b]) (xQv (S := mdT) (fun u => shR c many rent rd (rv_m7 un + 1) hs ev (rv_keep f un) u) (fun u => (bkP dC dI b 43 (sbE dA b u V))) (bkA b 43)) 0 0 (bkA b 43) := by
  refine x_in (by decide) rfl (Nat.le_of_ble_eq_true rfl) (lv := [(0, .ref b)]) rfl ?_
  intro p e s m below meth c_ X hN hnm hr hlk hP ls hl
  have hm := hR.m6
  have hr6 := hR.r6
  have hd6 := hR.d6
  have hu8 := hR.u8
  have hs12 := hR.h12
  have hS : va_S (bkA b 43) s.heap s.heap [] := va_S.rf
  have hR0 := hR
  have K50 : ∀ (S1 : mdT) (mm : Nat) (H : Heap) (locs : List Loc), (mm = rv_m7 un) → (mm ≤ 7) → (S1 = mdS (wsh S (if un = 8 then 7 else 0)) 0 3 (nI (rv_m7 un))) → bkP dC dI b 43 (sbE dA b S1 V) H → va_S (bkA b 43) s.heap H locs → ∀ ls, lv_has ls 2 [(0, .ref b)] → W p l e { frames := 3, cells := 0, slots := 0, locals := 180 } s m [.ref b].toArray below meth c_ H locs 0 0 (MQ below (xQv (S := mdT) (fun u => shR c many rent rd (rv_m7 un + 1) hs ev (rv_keep f un) u) (fun u => (bkP dC dI b 43 (sbE dA b u V))) (bkA b 43)) [.ref b].toArray s 0 0 (bkA b 43)) (F0 m 50 ls []) := by
    intro S1 mm H locs hmm hmm7 hS1 hP hS ls hl
    refine lv_aload_n X.1 X.2.1 dX1_remembers_50 rfl (lv_at hl 0 rfl) ?_
    refine xb_get (C := RX1) (T := TX1) (v := .ref (b + 10)) X in_X1 (ci := 1) rfl hP (j := 0) (by decide) (xe_s0 ..) 9 (by decide) q161 rfl rfl dX1_remembers_51 ?_
    refine lv_aload_n X.1 X.2.1 dX1_remembers_54 rfl (lv_at hl 0 rfl) ?_
    refine xb_get (C := RX1) (T := TX1) (v := .int (S1 0 3)) X in_X1 (ci := 1) rfl hP (j := 0) (by decide) (xe_s0 ..) 10 (by decide) q163 rfl rfl dX1_remembers_55 ?_
    refine rn_co (y := nI mm) (by rw [hS1, mdS_eq, ← hmm]) ?_
    refine xb_aald X hP (j := 10) (by decide) (t := 4) (C := RX2) (f := fun k_ => some (b + (11 + 4 * k_))) rfl rfl (by omega) (by decide) dX1_remembers_58 ?_
    change W _ _ _ _ _ _ _ _ _ _ _ _ _ _ _ (F0 m _ ls (.ref (b + (11 + 4 * mm)) :: _))
    refine lv_aload_n X.1 X.2.1 dX1_remembers_59 rfl (lv_at hl 0 rfl) ?_
    refine xb_get (C := RX1) (T := TX1) (v := .ref (b + 6)) X in_X1 (ci := 1) rfl hP (j := 0) (by decide) (xe_s0 ..) 8 (by decide) q159 rfl rfl dX1_remembers_60 ?_
    refine x_cWv (x_runV X hN ⟨(sb_st hP (o := 11 + 4 * mm) (stO.w (by omega))), (sb_st hP (o := 6) (stO.n))⟩ (As := [.ref (b + (6))]) (rest := []) (x_X2_takes l dC dI dA (b + (11 + 4 * mm)) (fun r => S1 (11 + 4 * mm + r)) (fun r => S1 (6 + r)) (b + (6)) (by omega)) xkv_X1_69 (x_recv (ci := 2) X.2.2.2.2.2 (sb_st hP (o := 11 + 4 * mm) (stO.w (by omega))) (j := 0) (by decide) (xe_t0 ..) rfl) rfl rfl ⟨Nat.le_of_ble_eq_true rfl, Nat.le_of_ble_eq_true rfl⟩ hl.1 (Nat.le_of_ble_eq_true rfl) dX1_remembers_63 ⟨Nat.le_of_ble_eq_true rfl, Nat.le_of_ble_eq_true rfl⟩) hS (fun q h => by unfold bkA at *; omega) (fun q h => by unfold bkA at *; omega) (fun _ H locs _ hP1 hz1 hk1 hS => ?_)
    have hP := sb_stI hP hP1.1 hP1.2 (stO.w (by omega)) (stO.n) (fun q h1 h2 => hk1 q (bk_sz hP h1) h2) (by omega)
    refine lv_aload_n X.1 X.2.1 dX1_remembers_66 rfl (lv_at hl 0 rfl) ?_
    refine lv_dup X.1 X.2.1 dX1_remembers_67 rfl ?_
    refine xb_get (C := RX1) (T := TX1) (v := .int ((mdI S1 (11 + 4 * mm) 4 (fun r => S1 (6 + r))) 0 3)) X in_X1 (ci := 1) rfl hP (j := 0) (by decide) (xe_s0 ..) 10 (by decide) q163 rfl rfl dX1_remembers_68 ?_
    refine rn_co (y := nI mm) (by rw [mdI_out _ _ (by omega), hS1, mdS_eq, ← hmm]) ?_
    refine lv_iconst (v := nI 1) X.1 X.2.1 dX1_remembers_71 rfl ?_
    refine rn_iadd X.1 X.2.1 dX1_remembers_72 ?_
    refine xb_put (C := RX1) (T := TX1) (E' := sbE dA b (mdS (mdI S1 (11 + 4 * mm) 4 (fun r => S1 (6 + r))) 0 3 (nI (mm + 1))) V) X in_X1 tyX1 tyX1_ok nmX1 (ci := 1) rfl hP (fun _ h => h) hS (j := 0) (by decide) (xe_s0 ..) 10 (by decide) q163 rfl rfl rfl rfl rfl (Nat.le_of_ble_eq_true rfl) (fun i_ _ => sbE_S dA b (mdI S1 (11 + 4 * mm) 4 (fun r => S1 (6 + r))) V 0 3 (nI (mm + 1)) i_) dX1_remembers_73 (fun H locs hP hS => ?_)
    exact x_rv (mdS (mdI S1 (11 + 4 * mm) 4 (fun r => S1 (6 + r))) 0 3 (nI (mm + 1))) X hr hlk hS dX1_remembers_76 (by subst hmm; exact sh_keep hR0 hS1) hP
  have K11 : ∀ (k11_ : Nat) (S1 : mdT) (k : Nat) (c_6 : un = 8) (H : Heap) (locs : List Loc), 8 - k = k11_ → (1 ≤ k) → (k ≤ 8) → (S1 = wsh S (k - 1)) → bkP dC dI b 43 (sbE dA b S1 V) H → va_S (bkA b 43) s.heap H locs → ∀ ls, lv_has ls 2 [(0, .ref b), (1, .int (nI k))] → W p l e { frames := 3, cells := 0, slots := 0, locals := 180 } s m [.ref b].toArray below meth c_ H locs 0 0 (MQ below (xQv (S := mdT) (fun u => shR c many rent rd (rv_m7 un + 1) hs ev (rv_keep f un) u) (fun u => (bkP dC dI b 43 (sbE dA b u V))) (bkA b 43)) [.ref b].toArray s 0 0 (bkA b 43)) (F0 m 11 ls []) := by
    intro k11_
    induction k11_ using Nat.strongRecOn with
    | _ k11_ ih11 =>
      intro S1 k c_6 H locs hm11_ hk1 hk8 hS1 hP hS ls hl
      refine lv_iload_n X.1 X.2.1 dX1_remembers_11 rfl (lv_at hl 1 rfl) ?_
      refine lv_bipush (v := nI 8) X.1 X.2.1 dX1_remembers_12 rfl ?_
      refine rn_icmp_ge (tgt := 40) X.1 X.2.1 (by omega) (by omega) dX1_remembers_14 (by decide) (fun c_14 => ?_) (fun c_14 => ?_)
      · refine lv_aload_n X.1 X.2.1 dX1_remembers_40 rfl (lv_at hl 0 rfl) ?_
        refine lv_dup X.1 X.2.1 dX1_remembers_41 rfl ?_
        refine xb_get (C := RX1) (T := TX1) (v := .int (S1 0 3)) X in_X1 (ci := 1) rfl hP (j := 0) (by decide) (xe_s0 ..) 10 (by decide) q163 rfl rfl dX1_remembers_42 ?_
        refine rn_co (y := nI un) (by rw [hS1]; unfold wsh; rw [if_neg (by omega)]; exact hR0.nu) ?_
        refine lv_iconst (v := nI 1) X.1 X.2.1 dX1_remembers_45 rfl ?_
        refine rn_isub X.1 X.2.1 (by omega) dX1_remembers_46 ?_
        refine xb_put (C := RX1) (T := TX1) (E' := sbE dA b (mdS S1 0 3 (nI (un - 1))) V) X in_X1 tyX1 tyX1_ok nmX1 (ci := 1) rfl hP (fun _ h => h) hS (j := 0) (by decide) (xe_s0 ..) 10 (by decide) q163 rfl rfl rfl rfl rfl (Nat.le_of_ble_eq_true rfl) (fun i_ _ => sbE_S dA b S1 V 0 3 (nI (un - 1)) i_) dX1_remembers_47 (fun H locs hP hS => ?_)
        exact K50 (mdS S1 0 3 (nI (un - 1))) 7 _ _ (by unfold rv_m7; rw [if_pos c_6]) (by omega) (by rw [if_pos c_6, hS1, show k - 1 = 7 by omega]; unfold rv_m7; rw [if_pos c_6, c_6]) hP hS ls (lv_sub hl [0] rfl)
      · refine lv_aload_n X.1 X.2.1 dX1_remembers_17 rfl (lv_at hl 0 rfl) ?_
        refine xb_get (C := RX1) (T := TX1) (v := .ref (b + 10)) X in_X1 (ci := 1) rfl hP (j := 0) (by decide) (xe_s0 ..) 9 (by decide) q161 rfl rfl dX1_remembers_18 ?_
        refine lv_iload_n X.1 X.2.1 dX1_remembers_21 rfl (lv_at hl 1 rfl) ?_
        refine lv_iconst (v := nI 1) X.1 X.2.1 dX1_remembers_22 rfl ?_
        refine rn_isub X.1 X.2.1 (by omega) dX1_remembers_23 ?_
        refine xb_aald X hP (j := 10) (by decide) (t := 4) (C := RX2) (f := fun k_ => some (b + (11 + 4 * k_))) rfl rfl (by omega) (by decide) dX1_remembers_24 ?_
        change W _ _ _ _ _ _ _ _ _ _ _ _ _ _ _ (F0 m _ ls (.ref (b + (11 + 4 * (k - 1))) :: _))
        refine lv_aload_n X.1 X.2.1 dX1_remembers_25 rfl (lv_at hl 0 rfl) ?_
        refine xb_get (C := RX1) (T := TX1) (v := .ref (b + 10)) X in_X1 (ci := 1) rfl hP (j := 0) (by decide) (xe_s0 ..) 9 (by decide) q161 rfl rfl dX1_remembers_26 ?_
        refine lv_iload_n X.1 X.2.1 dX1_remembers_29 rfl (lv_at hl 1 rfl) ?_
        refine xb_aald X hP (j := 10) (by decide) (t := 4) (C := RX2) (f := fun k_ => some (b + (11 + 4 * k_))) rfl rfl (by omega) (by decide) dX1_remembers_30 ?_
        change W _ _ _ _ _ _ _ _ _ _ _ _ _ _ _ (F0 m _ ls (.ref (b + (11 + 4 * k)) :: _))
        refine x_cWv (x_runV X hN ⟨(sb_st hP (o := 11 + 4 * (k - 1)) (stO.w (by omega))), (sb_st hP (o := 11 + 4 * k) (stO.w (by omega)))⟩ (As := [.ref (b + (11 + 4 * k))]) (rest := []) (x_X2_takes l dC dI dA (b + (11 + 4 * (k - 1))) (fun r => S1 (11 + 4 * (k - 1) + r)) (fun r => S1 (11 + 4 * k + r)) (b + (11 + 4 * k)) (by omega)) xkv_X1_69 (x_recv (ci := 2) X.2.2.2.2.2 (sb_st hP (o := 11 + 4 * (k - 1)) (stO.w (by omega))) (j := 0) (by decide) (xe_t0 ..) rfl) rfl rfl ⟨Nat.le_of_ble_eq_true rfl, Nat.le_of_ble_eq_true rfl⟩ hl.1 (Nat.le_of_ble_eq_true rfl) dX1_remembers_31 ⟨Nat.le_of_ble_eq_true rfl, Nat.le_of_ble_eq_true rfl⟩) hS (fun q h => by unfold bkA at *; omega) (fun q h => by unfold bkA at *; omega) (fun _ H locs _ hP1 hz1 hk1 hS => ?_)
        have hP := sb_stI hP hP1.1 hP1.2 (stO.w (by omega)) (stO.w (by omega)) (fun q h1 h2 => hk1 q (bk_sz hP h1) h2) (by omega)
        rw [hS1, wsh_s S (by omega)] at hP
        refine rn_iinc (lv' := [(1, .int (nI (k + 1))), (0, .ref b)]) X.1 X.2.1 dX1_remembers_34 hl (k := 1) rfl (by decide) rfl (fun ls hl => ?_)
        refine lv_goto (tgt := 11) X.1 X.2.1 dX1_remembers_37 (by decide) ?_
        exact ih11 _ (by omega) (wsh S (k + 1 - 1)) (k + 1) c_6 _ _ rfl (by omega) (by omega) rfl hP hS ls (lv_sub hl [1, 0] rfl)
  refine lv_aload_n X.1 X.2.1 dX1_remembers_0 rfl (lv_at hl 0 rfl) ?_
  refine xb_get (C := RX1) (T := TX1) (v := .int (S 0 3)) X in_X1 (ci := 1) rfl hP (j := 0) (by decide) (xe_s0 ..) 10 (by decide) q163 rfl rfl dX1_remembers_1 ?_
  refine rn_co (y := nI un) hR.nu ?_
  refine lv_bipush (v := nI 8) X.1 X.2.1 dX1_remembers_4 rfl ?_
  refine rn_icmp_ne (tgt := 50) X.1 X.2.1 (by omega) (by omega) dX1_remembers_6 (by decide) (fun c_6 => ?_) (fun c_6 => ?_)
  · exact K50 S un _ _ (by unfold rv_m7; rw [if_neg c_6]) (by omega) (by unfold rv_m7; rw [if_neg c_6, if_neg c_6, wsh_0, mdS_self S hR0.nu]) hP hS ls (lv_sub hl [0] rfl)
  · refine lv_iconst (v := nI 1) X.1 X.2.1 dX1_remembers_9 rfl ?_
    refine lv_istore_n (lv' := [(1, .int (nI 1)), (0, .ref b)]) X.1 X.2.1 dX1_remembers_10 rfl hl (by decide) rfl (fun ls hl => ?_)
    exact K11 _ S 1 c_6 _ _ rfl (by omega) (by omega) (wsh_0 S).symm hP hS ls (lv_sub hl [1, 0] rfl)
