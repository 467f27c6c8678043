set_option maxRecDepth 100000
/-! the component: a Shop takes another -/
/-- how many numbers of a Shop's row count -/
def sbLen (i : Nat) : Nat := if i = 0 then 4 else if i < 5 then 6 else if i = 5 then 18 else stL (i - sbO i)
theorem sb_ext {dC : Nat → ClassId} {dI : Nat → Nat → Nat} {dA : Nat → ClassId} {H : Heap} {b : Nat} {S S' : mdT} {V V' : Nat → Option Nat} (h : bkP dC dI b 43 (sbE dA b S V) H) (hS : ∀ i, i < 43 → i ≠ 1 → i ≠ 10 → ∀ k, k < sbLen i → S i k = S' i k) (hV : ∀ v, v < 6 → V v = V' v) : bkP dC dI b 43 (sbE dA b S' V') H := by
  refine h.ext (fun i hi => ?_)
  unfold sbE sbF
  by_cases h0 : i = 0
  · subst h0
    rw [if_pos rfl, if_pos rfl, hS 0 (by omega) (by omega) (by omega) 0 (by decide), hS 0 (by omega) (by omega) (by omega) 1 (by decide), hS 0 (by omega) (by omega) (by omega) 2 (by decide), hS 0 (by omega) (by omega) (by omega) 3 (by decide)]
    exact Or.inl rfl
  rw [if_neg h0, if_neg h0]
  by_cases h1 : i = 1
  · rw [if_pos h1, if_pos h1]; exact xSame.q hV
  rw [if_neg h1, if_neg h1]
  by_cases h6 : i < 6
  · rw [if_pos h6, if_pos h6]
    refine xSame.i (fun k hk => hS i hi h1 (by omega) k ?_)
    unfold sbLen
    rw [if_neg h0]
    by_cases h5 : i = 5
    · rw [if_neg (by omega), if_pos h5]; rw [if_pos h5] at hk; exact hk
    · rw [if_pos (by omega)]; rw [if_neg h5] at hk; exact hk
  rw [if_neg h6, if_neg h6]
  by_cases h10 : i = 10
  · rw [if_pos h10, if_pos h10]; exact Or.inl rfl
  rw [if_neg h10, if_neg h10]
  refine stF_same (fun k hk => hS i hi h1 h10 k ?_)
  unfold sbLen
  rw [if_neg h0, if_neg (by omega), if_neg (by omega)]
  exact hk
/-- a Shop's numbers, k States taken -/
def tkS (S S2 : mdT) (k : Nat) : mdT := fun i => if i = 0 then upd (S2 0) 3 (S 0 3) else if i < 11 + 4 * k then S2 i else S i
theorem tkS_s (S S2 : mdT) (k : Nat) : mdI (tkS S S2 k) (11 + 4 * k) 4 (fun r => S2 (11 + 4 * k + r)) = tkS S S2 (k + 1) := by
  funext i
  unfold mdI tkS
  by_cases h : 11 + 4 * k ≤ i ∧ i < 11 + 4 * k + 4
  · rw [if_pos h]
    dsimp only
    rw [if_neg (by omega), if_pos (by omega)]
    congr 1
    omega
  · rw [if_neg h]
    by_cases h0 : i = 0
    · rw [if_pos h0, if_pos h0]
    · rw [if_neg h0, if_neg h0]
      by_cases h2 : i < 11 + 4 * k
      · rw [if_pos h2, if_pos (by omega)]
      · rw [if_neg h2, if_neg (by omega)]
theorem sh_took {S S2 : mdT} {g2 g3 g4 g5 : Nat → Int32} : ∀ i, i < 43 → i ≠ 1 → i ≠ 10 → ∀ k, k < sbLen i → (mdI (mdS (mdR (mdS (mdR (mdR (mdS (mdR S 2 (va_cpy (S2 2) g2 0 0 6)) 0 0 (S2 0 0)) 3 (va_cpy (S2 3) g3 0 0 6)) 4 (va_cpy (S2 4) g4 0 0 6)) 0 1 (S2 0 1)) 5 (va_cpy (S2 5) g5 0 0 18)) 0 2 (S2 0 2)) 6 4 (fun r => S2 (6 + r))) i k = tkS S S2 0 i k := by
  intro i hi h1 h10 k hk
  by_cases a : 6 ≤ i ∧ i < 6 + 4
  · have e : i = 6 + (i - 6) := by omega
    rw [e, mdI_in _ _ (by omega)]
    unfold tkS
    rw [if_neg (by omega), if_pos (by omega)]
  · rw [mdI_out _ _ (by omega)]
    by_cases b : 10 < i
    · rw [mdS_row _ _ _ (by omega), upRn _ _ (by omega), mdS_row _ _ _ (by omega), upRn _ _ (by omega), upRn _ _ (by omega), mdS_row _ _ _ (by omega), upRn _ _ (by omega)]
      unfold tkS
      rw [if_neg (by omega), if_neg (by omega)]
    · have : i = 0 ∨ i = 2 ∨ i = 3 ∨ i = 4 ∨ i = 5 := by omega
      rcases this with rfl | rfl | rfl | rfl | rfl
      · have hk : k < 4 := hk
        have : k = 0 ∨ k = 1 ∨ k = 2 ∨ k = 3 := by omega
        rcases this with rfl | rfl | rfl | rfl <;> rfl
      · exact va_cpy_in hk
      · exact va_cpy_in hk
      · exact va_cpy_in hk
      · exact va_cpy_in hk
theorem x_X1_takes (l : Launch) (dC : Nat → ClassId) (dI : Nat → Nat → Nat) (dA : Nat → ClassId) (b : Nat) (S : mdT) (V : Nat → Option Nat) (S2 : mdT) (V2 : Nat → Option Nat) (b2 : Nat) (c : Nat) (many : Nat) (rent : Nat) (rd : Nat) (un : Nat) (hs : Nat) (ev : Nat) (f : Nat → Int32) (T : Nat → Prop) (hR2 : shR c many rent rd un hs ev f S2) (hd : b + 43 ≤ b2 ∨ b2 + 43 ≤ b) : Met l yX1_takes (ws_ yX1_takes cX1_takes 3 none) { frames := 3, cells := 0, slots := 0, locals := 180 } (xPc dC dI dA (fun H => (bkP dC dI b 43 (sbE dA b S V) H) ∧ (bkP dC dI b2 43 (sbE dA b2 S2 V2) H) ∧ (shV dC dI T many f V2 H)) [.ref b, .ref b2]) (xQv (S := mdT) (fun u => shR c many rent rd un hs ev f u) (fun u => (fun H => bkP dC dI b 43 (sbE dA b u V2) H ∧ bkP dC dI b2 43 (sbE dA b2 S2 V2) H)) (fun q => bkA b 43 q ∨ bkA b2 43 q)) 0 0 (fun q => bkA b 43 q ∨ bkA b2 43 q) := by
  refine x_in (by decide) rfl (Nat.le_of_ble_eq_true rfl) (lv := [(0, .ref b), (1, .ref b2)]) rfl ?_
  intro p e s m below meth c_ X hN hnm hr hlk hP ls hl
  obtain ⟨hP, hP2, hV⟩ := hP
  have hS : va_S (fun q => bkA b 43 q ∨ bkA b2 43 q) s.heap s.heap [] := va_S.rf
  have hu8 := hR2.u8
  have K115 : ∀ (k115_ : Nat) (k : Nat) (H : Heap) (locs : List Loc), un - k = k115_ → (k ≤ un) → bkP dC dI b 43 (sbE dA b (tkS S S2 k) V2) H → va_S (fun q => bkA b 43 q ∨ bkA b2 43 q) s.heap H locs → (bkP dC dI b2 43 (sbE dA b2 S2 V2) H) → ∀ ls, lv_has ls 3 [(0, .ref b), (1, .ref b2), (2, .int (nI k))] → W p l e { frames := 3, cells := 0, slots := 0, locals := 180 } s m [.ref b, .ref b2].toArray below meth c_ H locs 0 0 (MQ below (xQv (S := mdT) (fun u => shR c many rent rd un hs ev f u) (fun u => (fun H => bkP dC dI b 43 (sbE dA b u V2) H ∧ bkP dC dI b2 43 (sbE dA b2 S2 V2) H)) (fun q => bkA b 43 q ∨ bkA b2 43 q)) [.ref b, .ref b2].toArray s 0 0 (fun q => bkA b 43 q ∨ bkA b2 43 q)) (F0 m 115 ls []) := by
    intro k115_
    induction k115_ using Nat.strongRecOn with
    | _ k115_ ih115 =>
      intro k H locs hm115_ hku hP hS hP2 ls hl
      refine lv_iload_n X.1 X.2.1 dX1_takes_115 rfl (lv_at hl 2 rfl) ?_
      refine lv_aload_n X.1 X.2.1 dX1_takes_116 rfl (lv_at hl 1 rfl) ?_
      refine xb_get (C := RX1) (T := TX1) (v := .int (S2 0 3)) X in_X1 (ci := 1) rfl hP2 (j := 0) (by decide) (xe_s0 ..) 10 (by decide) q163 rfl rfl dX1_takes_117 ?_
      refine rn_co (y := nI un) hR2.nu ?_
      refine rn_icmp_ge (tgt := 144) X.1 X.2.1 (by omega) (by omega) dX1_takes_120 (by decide) (fun c_120 => ?_) (fun c_120 => ?_)
      · refine lv_aload_n X.1 X.2.1 dX1_takes_144 rfl (lv_at hl 0 rfl) ?_
        refine lv_aload_n X.1 X.2.1 dX1_takes_145 rfl (lv_at hl 1 rfl) ?_
        refine xb_get (C := RX1) (T := TX1) (v := .int (S2 0 3)) X in_X1 (ci := 1) rfl hP2 (j := 0) (by decide) (xe_s0 ..) 10 (by decide) q163 rfl rfl dX1_takes_146 ?_
        refine rn_co (y := nI un) hR2.nu ?_
        refine xb_put2 (C := RX1) (T := TX1) (E' := sbE dA b (mdS (tkS S S2 k) 0 3 (nI un)) V2) X in_X1 tyX1 tyX1_ok nmX1 (ci := 1) rfl hP hP2 (fun _ h => Or.inl h) (fun _ h => Or.inr h) hd hS (j := 0) (by decide) (xe_s0 ..) 10 (by decide) q163 rfl rfl rfl rfl rfl (Nat.le_of_ble_eq_true rfl) (fun i_ _ => sbE_S dA b (tkS S S2 k) V2 0 3 (nI un) i_) dX1_takes_149 (fun H locs hP hP2 hS => ?_)
        exact x_rv (mdS (tkS S S2 k) 0 3 (nI un)) X hr hlk hS dX1_takes_152 (by obtain rfl : k = un := (by omega); refine hR2.cg0 (fun i hi => ?_) (fun _ _ => rfl); by_cases e : i = 0; (subst e; funext q; rw [mdS_at]; unfold tkS; rw [if_pos rfl]; unfold upd; by_cases e : q = 3; (subst e; rw [if_pos ⟨rfl, rfl⟩]; exact hR2.nu.symm); (rw [if_neg (fun z => e z.2), if_neg e])); (rw [mdS_row _ _ _ e]; unfold tkS; rw [if_neg e, if_pos hi])) ⟨hP, hP2⟩
      · refine lv_aload_n X.1 X.2.1 dX1_takes_123 rfl (lv_at hl 0 rfl) ?_
        refine xb_get (C := RX1) (T := TX1) (v := .ref (b + 10)) X in_X1 (ci := 1) rfl hP (j := 0) (by decide) (xe_s0 ..) 9 (by decide) q161 rfl rfl dX1_takes_124 ?_
        refine lv_iload_n X.1 X.2.1 dX1_takes_127 rfl (lv_at hl 2 rfl) ?_
        refine xb_aald X hP (j := 10) (by decide) (t := 4) (C := RX2) (f := fun k_ => some (b + (11 + 4 * k_))) rfl rfl (by omega) (by decide) dX1_takes_128 ?_
        change W _ _ _ _ _ _ _ _ _ _ _ _ _ _ _ (F0 m _ ls (.ref (b + (11 + 4 * k)) :: _))
        refine lv_aload_n X.1 X.2.1 dX1_takes_129 rfl (lv_at hl 1 rfl) ?_
        refine xb_get (C := RX1) (T := TX1) (v := .ref (b2 + 10)) X in_X1 (ci := 1) rfl hP2 (j := 0) (by decide) (xe_s0 ..) 9 (by decide) q161 rfl rfl dX1_takes_130 ?_
        refine lv_iload_n X.1 X.2.1 dX1_takes_133 rfl (lv_at hl 2 rfl) ?_
        refine xb_aald X hP2 (j := 10) (by decide) (t := 4) (C := RX2) (f := fun k_ => some (b2 + (11 + 4 * k_))) rfl rfl (by omega) (by decide) dX1_takes_134 ?_
        change W _ _ _ _ _ _ _ _ _ _ _ _ _ _ _ (F0 m _ ls (.ref (b2 + (11 + 4 * k)) :: _))
        refine x_cWv (x_runV X hN ⟨(sb_st hP (o := 11 + 4 * k) (stO.w (by omega))), (sb_st hP2 (o := 11 + 4 * k) (stO.w (by omega)))⟩ (As := [.ref (b2 + (11 + 4 * k))]) (rest := []) (x_X2_takes l dC dI dA (b + (11 + 4 * k)) (fun r => (tkS S S2 k) (11 + 4 * k + r)) (fun r => S2 (11 + 4 * k + r)) (b2 + (11 + 4 * k)) (by omega)) xkv_X1_69 (x_recv (ci := 2) X.2.2.2.2.2 (sb_st hP (o := 11 + 4 * k) (stO.w (by omega))) (j := 0) (by decide) (xe_t0 ..) rfl) rfl rfl ⟨Nat.le_of_ble_eq_true rfl, Nat.le_of_ble_eq_true rfl⟩ hl.1 (Nat.le_of_ble_eq_true rfl) dX1_takes_135 ⟨Nat.le_of_ble_eq_true rfl, Nat.le_of_ble_eq_true rfl⟩) hS (fun q h => by unfold bkA at *; omega) (fun q h => by unfold bkA at *; omega) (fun _ H locs _ hP1 hz1 hk1 hS => ?_)
        have hP := sb_stJ hP hP1.1 (stO.w (by omega)) (fun q h1 h2 => hk1 q (bk_sz hP h1) (fun z => z.elim h2 (fun z2 => by unfold bkA at *; omega)))
        have hP2 := sb_stK hP2 hP1.2 (stO.w (by omega)) (fun q h1 h2 => hk1 q (bk_sz hP2 h1) (fun z => z.elim (fun z2 => by unfold bkA at *; omega) h2))
        rw [tkS_s] at hP
        refine rn_iinc (lv' := [(2, .int (nI (k + 1))), (0, .ref b), (1, .ref b2)]) X.1 X.2.1 dX1_takes_138 hl (k := 2) rfl (by decide) rfl (fun ls hl => ?_)
        refine lv_goto (tgt := 115) X.1 X.2.1 dX1_takes_141 (by decide) ?_
        exact ih115 _ (by omega) (k + 1) _ _ rfl (by omega) hP hS hP2 ls (lv_sub hl [1, 2, 0] rfl)
  refine lv_aload_n X.1 X.2.1 dX1_takes_0 rfl (lv_at hl 1 rfl) ?_
  refine xb_get (C := RX1) (T := TX1) (v := .ref (b2 + 1)) X in_X1 (ci := 1) rfl hP2 (j := 0) (by decide) (xe_s0 ..) 0 (by decide) q137 rfl rfl dX1_takes_1 ?_
  refine lv_iconst (v := nI 0) X.1 X.2.1 dX1_takes_4 rfl ?_
  refine lv_aload_n X.1 X.2.1 dX1_takes_5 rfl (lv_at hl 0 rfl) ?_
  refine xb_get (C := RX1) (T := TX1) (v := .ref (b + 1)) X in_X1 (ci := 1) rfl hP (j := 0) (by decide) (xe_s0 ..) 0 (by decide) q137 rfl rfl dX1_takes_6 ?_
  refine lv_iconst (v := nI 0) X.1 X.2.1 dX1_takes_9 rfl ?_
  refine lv_bipush (v := nI 6) X.1 X.2.1 dX1_takes_10 rfl ?_
  refine xb_copyM (E' := sbE dA b S (va_cpy V2 V 0 0 6)) X hl.1 q592 hP hP2 (fun _ h => Or.inl h) (fun _ h => Or.inr h) hd hS (j := 1) (j2 := 1) (by decide) (by decide) (t := 3) (n := 6) (n2 := 6) (C := RX6) (f := V2) (g := V) rfl rfl rfl (sp := 0) (dp := 0) (k := 6) (by decide) (by decide) (by decide) (by decide) (fun i hi y_ hy => by obtain ⟨_, kd, sz, pr, we, hk, hv⟩ := hV.1 (0 + i) (by omega) y_ hy; exact vw_any X.2.2.2.2.2 hN hk hv) (rest := []) (by decide) (Nat.le_of_ble_eq_true rfl) (fun i _ => sbE_V ..) dX1_takes_12 (fun H locs hP hP2 hS => ?_)
  refine lv_aload_n X.1 X.2.1 dX1_takes_15 rfl (lv_at hl 1 rfl) ?_
  refine xb_get (C := RX1) (T := TX1) (v := .ref (b2 + 2)) X in_X1 (ci := 1) rfl hP2 (j := 0) (by decide) (xe_s0 ..) 1 (by decide) q140 rfl rfl dX1_takes_16 ?_
  refine lv_iconst (v := nI 0) X.1 X.2.1 dX1_takes_19 rfl ?_
  refine lv_aload_n X.1 X.2.1 dX1_takes_20 rfl (lv_at hl 0 rfl) ?_
  refine xb_get (C := RX1) (T := TX1) (v := .ref (b + 2)) X in_X1 (ci := 1) rfl hP (j := 0) (by decide) (xe_s0 ..) 1 (by decide) q140 rfl rfl dX1_takes_21 ?_
  refine lv_iconst (v := nI 0) X.1 X.2.1 dX1_takes_24 rfl ?_
  refine lv_bipush (v := nI 6) X.1 X.2.1 dX1_takes_25 rfl ?_
  refine xb_copyi (E' := sbE dA b (mdR S 2 (va_cpy (S2 2) (S 2) 0 0 6)) (va_cpy V2 V 0 0 6)) X hl.1 q592 hP hP2 (fun _ h => Or.inl h) (fun _ h => Or.inr h) hd hS (j := 2) (j2 := 2) (by decide) (by decide) (n := 6) (n2 := 6) (f := S2 2) (g := S 2) rfl rfl (sp := 0) (dp := 0) (k := 6) (by decide) (by decide) (by decide) (by decide) (rest := []) (by decide) (Nat.le_of_ble_eq_true rfl) (fun i_ _ => sbE_R dA b S (va_cpy V2 V 0 0 6) 2 (va_cpy (S2 2) (S 2) 0 0 6) i_) dX1_takes_27 (fun H locs hP hP2 hS => ?_)
  refine lv_aload_n X.1 X.2.1 dX1_takes_30 rfl (lv_at hl 0 rfl) ?_
  refine lv_aload_n X.1 X.2.1 dX1_takes_31 rfl (lv_at hl 1 rfl) ?_
  refine xb_get (C := RX1) (T := TX1) (v := .int (S2 0 0)) X in_X1 (ci := 1) rfl hP2 (j := 0) (by decide) (xe_s0 ..) 2 (by decide) q143 rfl rfl dX1_takes_32 ?_
  refine xb_put2 (C := RX1) (T := TX1) (E' := sbE dA b (mdS (mdR S 2 (va_cpy (S2 2) (S 2) 0 0 6)) 0 0 (S2 0 0)) (va_cpy V2 V 0 0 6)) X in_X1 tyX1 tyX1_ok nmX1 (ci := 1) rfl hP hP2 (fun _ h => Or.inl h) (fun _ h => Or.inr h) hd hS (j := 0) (by decide) (xe_s0 ..) 2 (by decide) q143 rfl rfl rfl rfl rfl (Nat.le_of_ble_eq_true rfl) (fun i_ _ => sbE_S dA b (mdR S 2 (va_cpy (S2 2) (S 2) 0 0 6)) (va_cpy V2 V 0 0 6) 0 0 (S2 0 0) i_) dX1_takes_35 (fun H locs hP hP2 hS => ?_)
  refine lv_aload_n X.1 X.2.1 dX1_takes_38 rfl (lv_at hl 1 rfl) ?_
  refine xb_get (C := RX1) (T := TX1) (v := .ref (b2 + 3)) X in_X1 (ci := 1) rfl hP2 (j := 0) (by decide) (xe_s0 ..) 3 (by decide) q147 rfl rfl dX1_takes_39 ?_
  refine lv_iconst (v := nI 0) X.1 X.2.1 dX1_takes_42 rfl ?_
  refine lv_aload_n X.1 X.2.1 dX1_takes_43 rfl (lv_at hl 0 rfl) ?_
  refine xb_get (C := RX1) (T := TX1) (v := .ref (b + 3)) X in_X1 (ci := 1) rfl hP (j := 0) (by decide) (xe_s0 ..) 3 (by decide) q147 rfl rfl dX1_takes_44 ?_
  refine lv_iconst (v := nI 0) X.1 X.2.1 dX1_takes_47 rfl ?_
  refine lv_bipush (v := nI 6) X.1 X.2.1 dX1_takes_48 rfl ?_
  refine xb_copyi (E' := sbE dA b (mdR (mdS (mdR S 2 (va_cpy (S2 2) (S 2) 0 0 6)) 0 0 (S2 0 0)) 3 (va_cpy (S2 3) ((mdS (mdR S 2 (va_cpy (S2 2) (S 2) 0 0 6)) 0 0 (S2 0 0)) 3) 0 0 6)) (va_cpy V2 V 0 0 6)) X hl.1 q592 hP hP2 (fun _ h => Or.inl h) (fun _ h => Or.inr h) hd hS (j := 3) (j2 := 3) (by decide) (by decide) (n := 6) (n2 := 6) (f := S2 3) (g := (mdS (mdR S 2 (va_cpy (S2 2) (S 2) 0 0 6)) 0 0 (S2 0 0)) 3) rfl rfl (sp := 0) (dp := 0) (k := 6) (by decide) (by decide) (by decide) (by decide) (rest := []) (by decide) (Nat.le_of_ble_eq_true rfl) (fun i_ _ => sbE_R dA b (mdS (mdR S 2 (va_cpy (S2 2) (S 2) 0 0 6)) 0 0 (S2 0 0)) (va_cpy V2 V 0 0 6) 3 (va_cpy (S2 3) ((mdS (mdR S 2 (va_cpy (S2 2) (S 2) 0 0 6)) 0 0 (S2 0 0)) 3) 0 0 6) i_) dX1_takes_50 (fun H locs hP hP2 hS => ?_)
  refine lv_aload_n X.1 X.2.1 dX1_takes_53 rfl (lv_at hl 1 rfl) ?_
  refine xb_get (C := RX1) (T := TX1) (v := .ref (b2 + 4)) X in_X1 (ci := 1) rfl hP2 (j := 0) (by decide) (xe_s0 ..) 4 (by decide) q149 rfl rfl dX1_takes_54 ?_
  refine lv_iconst (v := nI 0) X.1 X.2.1 dX1_takes_57 rfl ?_
  refine lv_aload_n X.1 X.2.1 dX1_takes_58 rfl (lv_at hl 0 rfl) ?_
  refine xb_get (C := RX1) (T := TX1) (v := .ref (b + 4)) X in_X1 (ci := 1) rfl hP (j := 0) (by decide) (xe_s0 ..) 4 (by decide) q149 rfl rfl dX1_takes_59 ?_
  refine lv_iconst (v := nI 0) X.1 X.2.1 dX1_takes_62 rfl ?_
  refine lv_bipush (v := nI 6) X.1 X.2.1 dX1_takes_63 rfl ?_
  refine xb_copyi (E' := sbE dA b (mdR (mdR (mdS (mdR S 2 (va_cpy (S2 2) (S 2) 0 0 6)) 0 0 (S2 0 0)) 3 (va_cpy (S2 3) ((mdS (mdR S 2 (va_cpy (S2 2) (S 2) 0 0 6)) 0 0 (S2 0 0)) 3) 0 0 6)) 4 (va_cpy (S2 4) ((mdR (mdS (mdR S 2 (va_cpy (S2 2) (S 2) 0 0 6)) 0 0 (S2 0 0)) 3 (va_cpy (S2 3) ((mdS (mdR S 2 (va_cpy (S2 2) (S 2) 0 0 6)) 0 0 (S2 0 0)) 3) 0 0 6)) 4) 0 0 6)) (va_cpy V2 V 0 0 6)) X hl.1 q592 hP hP2 (fun _ h => Or.inl h) (fun _ h => Or.inr h) hd hS (j := 4) (j2 := 4) (by decide) (by decide) (n := 6) (n2 := 6) (f := S2 4) (g := (mdR (mdS (mdR S 2 (va_cpy (S2 2) (S 2) 0 0 6)) 0 0 (S2 0 0)) 3 (va_cpy (S2 3) ((mdS (mdR S 2 (va_cpy (S2 2) (S 2) 0 0 6)) 0 0 (S2 0 0)) 3) 0 0 6)) 4) rfl rfl (sp := 0) (dp := 0) (k := 6) (by decide) (by decide) (by decide) (by decide) (rest := []) (by decide) (Nat.le_of_ble_eq_true rfl) (fun i_ _ => sbE_R dA b (mdR (mdS (mdR S 2 (va_cpy (S2 2) (S 2) 0 0 6)) 0 0 (S2 0 0)) 3 (va_cpy (S2 3) ((mdS (mdR S 2 (va_cpy (S2 2) (S 2) 0 0 6)) 0 0 (S2 0 0)) 3) 0 0 6)) (va_cpy V2 V 0 0 6) 4 (va_cpy (S2 4) ((mdR (mdS (mdR S 2 (va_cpy (S2 2) (S 2) 0 0 6)) 0 0 (S2 0 0)) 3 (va_cpy (S2 3) ((mdS (mdR S 2 (va_cpy (S2 2) (S 2) 0 0 6)) 0 0 (S2 0 0)) 3) 0 0 6)) 4) 0 0 6) i_) dX1_takes_65 (fun H locs hP hP2 hS => ?_)
  refine lv_aload_n X.1 X.2.1 dX1_takes_68 rfl (lv_at hl 0 rfl) ?_
  refine lv_aload_n X.1 X.2.1 dX1_takes_69 rfl (lv_at hl 1 rfl) ?_
  refine xb_get (C := RX1) (T := TX1) (v := .int (S2 0 1)) X in_X1 (ci := 1) rfl hP2 (j := 0) (by decide) (xe_s0 ..) 5 (by decide) q151 rfl rfl dX1_takes_70 ?_
  refine xb_put2 (C := RX1) (T := TX1) (E' := sbE dA b (mdS (mdR (mdR (mdS (mdR S 2 (va_cpy (S2 2) (S 2) 0 0 6)) 0 0 (S2 0 0)) 3 (va_cpy (S2 3) ((mdS (mdR S 2 (va_cpy (S2 2) (S 2) 0 0 6)) 0 0 (S2 0 0)) 3) 0 0 6)) 4 (va_cpy (S2 4) ((mdR (mdS (mdR S 2 (va_cpy (S2 2) (S 2) 0 0 6)) 0 0 (S2 0 0)) 3 (va_cpy (S2 3) ((mdS (mdR S 2 (va_cpy (S2 2) (S 2) 0 0 6)) 0 0 (S2 0 0)) 3) 0 0 6)) 4) 0 0 6)) 0 1 (S2 0 1)) (va_cpy V2 V 0 0 6)) X in_X1 tyX1 tyX1_ok nmX1 (ci := 1) rfl hP hP2 (fun _ h => Or.inl h) (fun _ h => Or.inr h) hd hS (j := 0) (by decide) (xe_s0 ..) 5 (by decide) q151 rfl rfl rfl rfl rfl (Nat.le_of_ble_eq_true rfl) (fun i_ _ => sbE_S dA b (mdR (mdR (mdS (mdR S 2 (va_cpy (S2 2) (S 2) 0 0 6)) 0 0 (S2 0 0)) 3 (va_cpy (S2 3) ((mdS (mdR S 2 (va_cpy (S2 2) (S 2) 0 0 6)) 0 0 (S2 0 0)) 3) 0 0 6)) 4 (va_cpy (S2 4) ((mdR (mdS (mdR S 2 (va_cpy (S2 2) (S 2) 0 0 6)) 0 0 (S2 0 0)) 3 (va_cpy (S2 3) ((mdS (mdR S 2 (va_cpy (S2 2) (S 2) 0 0 6)) 0 0 (S2 0 0)) 3) 0 0 6)) 4) 0 0 6)) (va_cpy V2 V 0 0 6) 0 1 (S2 0 1) i_) dX1_takes_73 (fun H locs hP hP2 hS => ?_)
  refine lv_aload_n X.1 X.2.1 dX1_takes_76 rfl (lv_at hl 1 rfl) ?_
  refine xb_get (C := RX1) (T := TX1) (v := .ref (b2 + 5)) X in_X1 (ci := 1) rfl hP2 (j := 0) (by decide) (xe_s0 ..) 6 (by decide) q155 rfl rfl dX1_takes_77 ?_
  refine lv_iconst (v := nI 0) X.1 X.2.1 dX1_takes_80 rfl ?_
  refine lv_aload_n X.1 X.2.1 dX1_takes_81 rfl (lv_at hl 0 rfl) ?_
  refine xb_get (C := RX1) (T := TX1) (v := .ref (b + 5)) X in_X1 (ci := 1) rfl hP (j := 0) (by decide) (xe_s0 ..) 6 (by decide) q155 rfl rfl dX1_takes_82 ?_
  refine lv_iconst (v := nI 0) X.1 X.2.1 dX1_takes_85 rfl ?_
  refine lv_aload_n X.1 X.2.1 dX1_takes_86 rfl (lv_at hl 0 rfl) ?_
  refine xb_get (C := RX1) (T := TX1) (v := .ref (b + 5)) X in_X1 (ci := 1) rfl hP (j := 0) (by decide) (xe_s0 ..) 6 (by decide) q155 rfl rfl dX1_takes_87 ?_
  refine xb_alen X hP (j := 5) (by decide) (t := 0) (n := 18) rfl rfl dX1_takes_90 ?_
  refine xb_copyi (E' := sbE dA b (mdR (mdS (mdR (mdR (mdS (mdR S 2 (va_cpy (S2 2) (S 2) 0 0 6)) 0 0 (S2 0 0)) 3 (va_cpy (S2 3) ((mdS (mdR S 2 (va_cpy (S2 2) (S 2) 0 0 6)) 0 0 (S2 0 0)) 3) 0 0 6)) 4 (va_cpy (S2 4) ((mdR (mdS (mdR S 2 (va_cpy (S2 2) (S 2) 0 0 6)) 0 0 (S2 0 0)) 3 (va_cpy (S2 3) ((mdS (mdR S 2 (va_cpy (S2 2) (S 2) 0 0 6)) 0 0 (S2 0 0)) 3) 0 0 6)) 4) 0 0 6)) 0 1 (S2 0 1)) 5 (va_cpy (S2 5) ((mdS (mdR (mdR (mdS (mdR S 2 (va_cpy (S2 2) (S 2) 0 0 6)) 0 0 (S2 0 0)) 3 (va_cpy (S2 3) ((mdS (mdR S 2 (va_cpy (S2 2) (S 2) 0 0 6)) 0 0 (S2 0 0)) 3) 0 0 6)) 4 (va_cpy (S2 4) ((mdR (mdS (mdR S 2 (va_cpy (S2 2) (S 2) 0 0 6)) 0 0 (S2 0 0)) 3 (va_cpy (S2 3) ((mdS (mdR S 2 (va_cpy (S2 2) (S 2) 0 0 6)) 0 0 (S2 0 0)) 3) 0 0 6)) 4) 0 0 6)) 0 1 (S2 0 1)) 5) 0 0 18)) (va_cpy V2 V 0 0 6)) X hl.1 q592 hP hP2 (fun _ h => Or.inl h) (fun _ h => Or.inr h) hd hS (j := 5) (j2 := 5) (by decide) (by decide) (n := 18) (n2 := 18) (f := S2 5) (g := (mdS (mdR (mdR (mdS (mdR S 2 (va_cpy (S2 2) (S 2) 0 0 6)) 0 0 (S2 0 0)) 3 (va_cpy (S2 3) ((mdS (mdR S 2 (va_cpy (S2 2) (S 2) 0 0 6)) 0 0 (S2 0 0)) 3) 0 0 6)) 4 (va_cpy (S2 4) ((mdR (mdS (mdR S 2 (va_cpy (S2 2) (S 2) 0 0 6)) 0 0 (S2 0 0)) 3 (va_cpy (S2 3) ((mdS (mdR S 2 (va_cpy (S2 2) (S 2) 0 0 6)) 0 0 (S2 0 0)) 3) 0 0 6)) 4) 0 0 6)) 0 1 (S2 0 1)) 5) rfl rfl (sp := 0) (dp := 0) (k := 18) (by decide) (by decide) (by decide) (by decide) (rest := []) (by decide) (Nat.le_of_ble_eq_true rfl) (fun i_ _ => sbE_R dA b (mdS (mdR (mdR (mdS (mdR S 2 (va_cpy (S2 2) (S 2) 0 0 6)) 0 0 (S2 0 0)) 3 (va_cpy (S2 3) ((mdS (mdR S 2 (va_cpy (S2 2) (S 2) 0 0 6)) 0 0 (S2 0 0)) 3) 0 0 6)) 4 (va_cpy (S2 4) ((mdR (mdS (mdR S 2 (va_cpy (S2 2) (S 2) 0 0 6)) 0 0 (S2 0 0)) 3 (va_cpy (S2 3) ((mdS (mdR S 2 (va_cpy (S2 2) (S 2) 0 0 6)) 0 0 (S2 0 0)) 3) 0 0 6)) 4) 0 0 6)) 0 1 (S2 0 1)) (va_cpy V2 V 0 0 6) 5 (va_cpy (S2 5) ((mdS (mdR (mdR (mdS (mdR S 2 (va_cpy (S2 2) (S 2) 0 0 6)) 0 0 (S2 0 0)) 3 (va_cpy (S2 3) ((mdS (mdR S 2 (va_cpy (S2 2) (S 2) 0 0 6)) 0 0 (S2 0 0)) 3) 0 0 6)) 4 (va_cpy (S2 4) ((mdR (mdS (mdR S 2 (va_cpy (S2 2) (S 2) 0 0 6)) 0 0 (S2 0 0)) 3 (va_cpy (S2 3) ((mdS (mdR S 2 (va_cpy (S2 2) (S 2) 0 0 6)) 0 0 (S2 0 0)) 3) 0 0 6)) 4) 0 0 6)) 0 1 (S2 0 1)) 5) 0 0 18) i_) dX1_takes_91 (fun H locs hP hP2 hS => ?_)
  refine lv_aload_n X.1 X.2.1 dX1_takes_94 rfl (lv_at hl 0 rfl) ?_
  refine lv_aload_n X.1 X.2.1 dX1_takes_95 rfl (lv_at hl 1 rfl) ?_
  refine xb_get (C := RX1) (T := TX1) (v := .int (S2 0 2)) X in_X1 (ci := 1) rfl hP2 (j := 0) (by decide) (xe_s0 ..) 7 (by decide) q157 rfl rfl dX1_takes_96 ?_
  refine xb_put2 (C := RX1) (T := TX1) (E' := sbE dA b (mdS (mdR (mdS (mdR (mdR (mdS (mdR S 2 (va_cpy (S2 2) (S 2) 0 0 6)) 0 0 (S2 0 0)) 3 (va_cpy (S2 3) ((mdS (mdR S 2 (va_cpy (S2 2) (S 2) 0 0 6)) 0 0 (S2 0 0)) 3) 0 0 6)) 4 (va_cpy (S2 4) ((mdR (mdS (mdR S 2 (va_cpy (S2 2) (S 2) 0 0 6)) 0 0 (S2 0 0)) 3 (va_cpy (S2 3) ((mdS (mdR S 2 (va_cpy (S2 2) (S 2) 0 0 6)) 0 0 (S2 0 0)) 3) 0 0 6)) 4) 0 0 6)) 0 1 (S2 0 1)) 5 (va_cpy (S2 5) ((mdS (mdR (mdR (mdS (mdR S 2 (va_cpy (S2 2) (S 2) 0 0 6)) 0 0 (S2 0 0)) 3 (va_cpy (S2 3) ((mdS (mdR S 2 (va_cpy (S2 2) (S 2) 0 0 6)) 0 0 (S2 0 0)) 3) 0 0 6)) 4 (va_cpy (S2 4) ((mdR (mdS (mdR S 2 (va_cpy (S2 2) (S 2) 0 0 6)) 0 0 (S2 0 0)) 3 (va_cpy (S2 3) ((mdS (mdR S 2 (va_cpy (S2 2) (S 2) 0 0 6)) 0 0 (S2 0 0)) 3) 0 0 6)) 4) 0 0 6)) 0 1 (S2 0 1)) 5) 0 0 18)) 0 2 (S2 0 2)) (va_cpy V2 V 0 0 6)) X in_X1 tyX1 tyX1_ok nmX1 (ci := 1) rfl hP hP2 (fun _ h => Or.inl h) (fun _ h => Or.inr h) hd hS (j := 0) (by decide) (xe_s0 ..) 7 (by decide) q157 rfl rfl rfl rfl rfl (Nat.le_of_ble_eq_true rfl) (fun i_ _ => sbE_S dA b (mdR (mdS (mdR (mdR (mdS (mdR S 2 (va_cpy (S2 2) (S 2) 0 0 6)) 0 0 (S2 0 0)) 3 (va_cpy (S2 3) ((mdS (mdR S 2 (va_cpy (S2 2) (S 2) 0 0 6)) 0 0 (S2 0 0)) 3) 0 0 6)) 4 (va_cpy (S2 4) ((mdR (mdS (mdR S 2 (va_cpy (S2 2) (S 2) 0 0 6)) 0 0 (S2 0 0)) 3 (va_cpy (S2 3) ((mdS (mdR S 2 (va_cpy (S2 2) (S 2) 0 0 6)) 0 0 (S2 0 0)) 3) 0 0 6)) 4) 0 0 6)) 0 1 (S2 0 1)) 5 (va_cpy (S2 5) ((mdS (mdR (mdR (mdS (mdR S 2 (va_cpy (S2 2) (S 2) 0 0 6)) 0 0 (S2 0 0)) 3 (va_cpy (S2 3) ((mdS (mdR S 2 (va_cpy (S2 2) (S 2) 0 0 6)) 0 0 (S2 0 0)) 3) 0 0 6)) 4 (va_cpy (S2 4) ((mdR (mdS (mdR S 2 (va_cpy (S2 2) (S 2) 0 0 6)) 0 0 (S2 0 0)) 3 (va_cpy (S2 3) ((mdS (mdR S 2 (va_cpy (S2 2) (S 2) 0 0 6)) 0 0 (S2 0 0)) 3) 0 0 6)) 4) 0 0 6)) 0 1 (S2 0 1)) 5) 0 0 18)) (va_cpy V2 V 0 0 6) 0 2 (S2 0 2) i_) dX1_takes_99 (fun H locs hP hP2 hS => ?_)
  refine lv_aload_n X.1 X.2.1 dX1_takes_102 rfl (lv_at hl 0 rfl) ?_
  refine xb_get (C := RX1) (T := TX1) (v := .ref (b + 6)) X in_X1 (ci := 1) rfl hP (j := 0) (by decide) (xe_s0 ..) 8 (by decide) q159 rfl rfl dX1_takes_103 ?_
  refine lv_aload_n X.1 X.2.1 dX1_takes_106 rfl (lv_at hl 1 rfl) ?_
  refine xb_get (C := RX1) (T := TX1) (v := .ref (b2 + 6)) X in_X1 (ci := 1) rfl hP2 (j := 0) (by decide) (xe_s0 ..) 8 (by decide) q159 rfl rfl dX1_takes_107 ?_
  refine x_cWv (x_runV X hN ⟨(sb_st hP (o := 6) (stO.n)), (sb_st hP2 (o := 6) (stO.n))⟩ (As := [.ref (b2 + (6))]) (rest := []) (x_X2_takes l dC dI dA (b + (6)) (fun r => (mdS (mdR (mdS (mdR (mdR (mdS (mdR S 2 (va_cpy (S2 2) (S 2) 0 0 6)) 0 0 (S2 0 0)) 3 (va_cpy (S2 3) ((mdS (mdR S 2 (va_cpy (S2 2) (S 2) 0 0 6)) 0 0 (S2 0 0)) 3) 0 0 6)) 4 (va_cpy (S2 4) ((mdR (mdS (mdR S 2 (va_cpy (S2 2) (S 2) 0 0 6)) 0 0 (S2 0 0)) 3 (va_cpy (S2 3) ((mdS (mdR S 2 (va_cpy (S2 2) (S 2) 0 0 6)) 0 0 (S2 0 0)) 3) 0 0 6)) 4) 0 0 6)) 0 1 (S2 0 1)) 5 (va_cpy (S2 5) ((mdS (mdR (mdR (mdS (mdR S 2 (va_cpy (S2 2) (S 2) 0 0 6)) 0 0 (S2 0 0)) 3 (va_cpy (S2 3) ((mdS (mdR S 2 (va_cpy (S2 2) (S 2) 0 0 6)) 0 0 (S2 0 0)) 3) 0 0 6)) 4 (va_cpy (S2 4) ((mdR (mdS (mdR S 2 (va_cpy (S2 2) (S 2) 0 0 6)) 0 0 (S2 0 0)) 3 (va_cpy (S2 3) ((mdS (mdR S 2 (va_cpy (S2 2) (S 2) 0 0 6)) 0 0 (S2 0 0)) 3) 0 0 6)) 4) 0 0 6)) 0 1 (S2 0 1)) 5) 0 0 18)) 0 2 (S2 0 2)) (6 + r)) (fun r => S2 (6 + r)) (b2 + (6)) (by omega)) xkv_X1_69 (x_recv (ci := 2) X.2.2.2.2.2 (sb_st hP (o := 6) (stO.n)) (j := 0) (by decide) (xe_t0 ..) rfl) rfl rfl ⟨Nat.le_of_ble_eq_true rfl, Nat.le_of_ble_eq_true rfl⟩ hl.1 (Nat.le_of_ble_eq_true rfl) dX1_takes_110 ⟨Nat.le_of_ble_eq_true rfl, Nat.le_of_ble_eq_true rfl⟩) hS (fun q h => by unfold bkA at *; omega) (fun q h => by unfold bkA at *; omega) (fun _ H locs _ hP1 hz1 hk1 hS => ?_)
  have hP := sb_stJ hP hP1.1 (stO.n) (fun q h1 h2 => hk1 q (bk_sz hP h1) (fun z => z.elim h2 (fun z2 => by unfold bkA at *; omega)))
  have hP2 := sb_stK hP2 hP1.2 (stO.n) (fun q h1 h2 => hk1 q (bk_sz hP2 h1) (fun z => z.elim (fun z2 => by unfold bkA at *; omega) h2))
  have hP := sb_ext (V' := V2) hP sh_took (fun v hv => va_cpy_in hv)
  refine lv_iconst (v := nI 0) X.1 X.2.1 dX1_takes_113 rfl ?_
  refine lv_istore_n (lv' := [(2, .int (nI 0)), (0, .ref b), (1, .ref b2)]) X.1 X.2.1 dX1_takes_114 rfl hl (by decide) rfl (fun ls hl => ?_)
  exact K115 _ 0 _ _ rfl (by omega) hP hS hP2 ls (lv_sub hl [1, 2, 0] rfl)
