set_option maxRecDepth 100000
/-! the component: States and Shops that change -/
/-- a view in an array of views -/
theorem vw_any {dC : Nat → ClassId} {dI : Nat → Nat → Nat} {dA : Nat → ClassId} {s : State} {H : Heap} {a kd : Nat} {sz pr we : Int32} (hK : rvK dC dI dA s) (hN : rvN s) (hk : kd < 6) (hV : vwP dC dI a kd sz pr we H) : va_Any RX6 s H a := by
  have sub : ∀ {C : String} {T : u_T}, vwK kd C T → Cond.castable C RX6 ∈ lw_tbl → va_Any RX6 s H a := fun {C T} K hc => by
    refine vw_rAny hK K hV (fun comp c0 h1 h2 => ?_)
    obtain ⟨c1, t1, f1, f2, f3⟩ := Cond.castable_spec (va_Nw.use (A := #[]) rfl (x_nest hN hc rfl))
    cases f1.symm.trans h2
    cases f2.symm.trans h1
    exact f3
  match kd, hk, hV, @sub with
  | 0, _, hV, _ =>
    refine vw_rAny hK vwK0 hV (fun comp c0 h1 h2 => ?_)
    cases h1.symm.trans h2
    have hc := vw_cls (dA := dA) (s := s) hK vwK0
    cases h1.symm.trans hc.1
    exact va_assign hc
  | 1, _, _, sub => exact sub vwK1 q1336
  | 2, _, _, sub => exact sub vwK2 q1337
  | 3, _, _, sub => exact sub vwK3 q1338
  | 4, _, _, sub => exact sub vwK4 q1339
  | 5, _, _, sub => exact sub vwK5 q1340
  | (_ + 6), h, _, _ => exact absurd h (by omega)
theorem va_cpy_in {α : Type} {f g : Nat → α} {n k : Nat} (h : k < n) : va_cpy f g 0 0 n k = f k := by
  unfold va_cpy
  rw [if_pos ⟨by omega, by omega⟩]
  congr 1
  omega
theorem st_took {τ τ2 : mdT} {g1 g2 g3 : Nat → Int32} : ∀ r, r < 4 → ∀ k, k < stL r → (mdS (mdR (mdS (mdS (mdR (mdR τ 1 (va_cpy (τ2 1) g1 0 0 6)) 2 (va_cpy (τ2 2) g2 0 0 6)) 0 0 (τ2 0 0)) 0 1 (τ2 0 1)) 3 (va_cpy (τ2 3) g3 0 0 36)) 0 2 (τ2 0 2)) r k = τ2 r k := by
  intro r hr k hk
  match r, hr, hk with
  | 0, _, hk =>
    have hk : k < 3 := hk
    match k, hk with
    | 0, _ => rfl
    | 1, _ => rfl
    | 2, _ => rfl
    | (_ + 3), h => exact absurd h (by omega)
  | 1, _, hk => exact va_cpy_in hk
  | 2, _, hk => exact va_cpy_in hk
  | 3, _, hk => exact va_cpy_in hk
  | (_ + 4), h, _ => exact absurd h (by omega)
/-- where a Shop's States lie -/
def stO (o : Nat) : Prop := o = 6 ∨ ∃ k, k < 8 ∧ o = 11 + 4 * k
theorem stO.w {k : Nat} (h : k < 8) : stO (11 + 4 * k) := Or.inr ⟨k, h, rfl⟩
theorem stO.n : stO 6 := Or.inl rfl
theorem stO.l {o : Nat} (h : stO o) : o + 4 ≤ 43 := by rcases h with rfl | ⟨k, h, rfl⟩ <;> omega
section ST
variable {dC : Nat → ClassId} {dI : Nat → Nat → Nat} {dA : Nat → ClassId} {H H1 : Heap} {b o o1 o2 : Nat} {S τ : mdT} {V : Nat → Option Nat}
theorem sbF_st (dA : Nat → ClassId) (b : Nat) (V : Nat → Option Nat) (f : Nat → Int32) (h : stO o) {r : Nat} (hr : r < 4) : sbF dA b V (o + r) f = stF dA (b + o) r f := by
  rcases h with rfl | ⟨k, h, rfl⟩
  · exact sbF_now dA b V f hr
  · exact sbF_was dA b V f k hr
theorem sb_st (h : bkP dC dI b 43 (sbE dA b S V) H) (ho : stO o) : bkP dC dI (b + o) 4 (stE dA (b + o) (fun r => S (o + r))) H :=
  (h.sub o 4 ho.l).e (fun j hj => sbF_st dA b V _ ho hj)
/-- one State took another's numbers -/
theorem sb_stI (h : bkP dC dI b 43 (sbE dA b S V) H) (g : bkP dC dI (b + o1) 4 (stE dA (b + o1) τ) H1) (g2 : bkP dC dI (b + o2) 4 (stE dA (b + o2) (fun r => S (o2 + r))) H1) (h1 : stO o1) (h2 : stO o2) (hk : ∀ q, bkA b 43 q → ¬ (bkA (b + o1) 4 q ∨ bkA (b + o2) 4 q) → H1[q]? = H[q]?) (hd : o1 + 4 ≤ o2 ∨ o2 + 4 ≤ o1) : bkP dC dI b 43 (sbE dA b (mdI S o1 4 τ) V) H1 := by
  intro j hj
  by_cases hin : o1 ≤ j ∧ j < o1 + 4
  · have := g (j - o1) (by omega)
    rw [show b + o1 + (j - o1) = b + j by omega] at this
    have e : sbE dA b (mdI S o1 4 τ) V j = stE dA (b + o1) τ (j - o1) := by
      have hj2 : j = o1 + (j - o1) := by omega
      unfold sbE stE
      rw [← sbF_st dA b V _ h1 (show j - o1 < 4 by omega), ← hj2]
      congr 1
      rw [hj2, mdI_in _ _ (by omega)]
      congr 1
      omega
    rw [e]; exact this
  · have e : sbE dA b (mdI S o1 4 τ) V j = sbE dA b S V j := by unfold sbE; rw [mdI_out _ _ (by omega)]
    rw [e]
    by_cases hin2 : o2 ≤ j ∧ j < o2 + 4
    · have := g2 (j - o2) (by omega)
      rw [show b + o2 + (j - o2) = b + j by omega] at this
      have e : sbE dA b S V j = stE dA (b + o2) (fun r => S (o2 + r)) (j - o2) := by
        unfold sbE stE
        rw [← sbF_st dA b V _ h2 (show j - o2 < 4 by omega)]
        show sbF dA b V j (S j) = sbF dA b V (o2 + (j - o2)) (S (o2 + (j - o2)))
        rw [show o2 + (j - o2) = j by omega]
      rw [e]; exact this
    · refine (h j hj).kept (hk _ ⟨by show b ≤ b + j; omega, by show b + j < b + 43; omega⟩ (fun z => ?_))
      rcases z with z | z
      · have z1 : b + o1 ≤ b + j := z.1
        have z2 : b + j < b + o1 + 4 := z.2
        omega
      · have z1 : b + o2 ≤ b + j := z.1
        have z2 : b + j < b + o2 + 4 := z.2
        omega
/-- a State of another Shop was taken: this one is as it was -/
theorem sb_stK (h : bkP dC dI b 43 (sbE dA b S V) H) (g : bkP dC dI (b + o) 4 (stE dA (b + o) (fun r => S (o + r))) H1) (ho : stO o) (hk : ∀ q, bkA b 43 q → ¬ bkA (b + o) 4 q → H1[q]? = H[q]?) : bkP dC dI b 43 (sbE dA b S V) H1 :=
  h.part g hk (fun j hj => (sbF_st dA b V _ ho hj).symm) (fun _ _ _ => rfl)
theorem sb_stJ (h : bkP dC dI b 43 (sbE dA b S V) H) (g : bkP dC dI (b + o) 4 (stE dA (b + o) τ) H1) (ho : stO o) (hk : ∀ q, bkA b 43 q → ¬ bkA (b + o) 4 q → H1[q]? = H[q]?) : bkP dC dI b 43 (sbE dA b (mdI S o 4 τ) V) H1 :=
  h.part g hk (fun j hj => by unfold stE sbE; rw [mdI_in _ _ hj, sbF_st _ _ _ _ ho hj]) (fun j hj ho => by unfold sbE; rw [mdI_out _ _ ho])
end ST
section XB3
variable {p : Program} {l : Launch} {e : Env} {R : Room} {s : State} {m : MethodId} {args : Array Value} {below : List Frame} {meth : Method} {c : Code} {H : Heap} {locs : List Loc} {cells slots : Nat} {Q : State → Prop}
variable {cc : ByteArray} {pc nL : Nat} {ls : Array Slot} {rest : List Value} {dC : Nat → ClassId} {dI : Nat → Nat → Nat} {dA : Nat → ClassId} {b N j b2 N2 : Nat} {E E' E2 : Nat → va_E} {H0 : Heap} {A : Nat → Prop} {own : String}
theorem xb_put2 {C : String} {T : u_T} {NN ci index : Nat} (X : xC dC dI dA p s m c args cc nL own) (hin : ∀ w ∈ u_ws C T NN, w ∈ lw_all) (ty0 : Nat → FieldType) (hty : ∀ k, k < NN → parseFieldDescriptor (T k).2.2.1 = some (ty0 k)) (hnm : ∀ a, a < NN → ∀ b, b < NN → a ≠ b → (T a).2.1 ≠ (T b).2.1) (hc : rvCl[ci]? = some (C, T, NN)) (hP : bkP dC dI b N E H) (hP2 : bkP dC dI b2 N2 E2 H) (hA : ∀ q, bkA b N q → A q) (hA2 : ∀ q, bkA b2 N2 q → A q) (hdd : b + N ≤ b2 ∨ b2 + N2 ≤ b) (hS : va_S A H0 H locs) (hj : j < N) {fs : List Value} (he : E j = .inr (ci, fs)) (k : Nat) (hk : k < NN) (hl : Cond.fieldLink own index C (T k).2.1 (T k).2.2.1 ∈ lw_all) (hT : (T k).1 = C) (hF : (T k).2.2.2 = false) {ty : FieldType} {v : Value} (hd : parseFieldDescriptor (T k).2.2.1 = some ty) (hn : narrow ty v = v) (hfit : fits ty v = true) (hlen : k < fs.length) (hE : ∀ i, i < N → va_up E j (.inr (ci, fs.set k v)) i = E' i) (hdg : decode cc pc = .ok (.putfield index, 3))
    (kk : ∀ (H1 : Heap) (locs1 : List Loc), bkP dC dI b N E' H1 → bkP dC dI b2 N2 E2 H1 → va_S A H0 H1 locs1 → W p l e R s m args below meth c H1 locs1 cells slots Q (F0 m (pc + 3) ls rest)) : W p l e R s m args below meth c H locs cells slots Q (F0 m pc ls (v :: .ref (b + j) :: rest)) :=
  va_put (ref := C) X.1 X.2.1 X.2.2.2.2.1 hin ty0 hty hnm X.2.2.2.1 X.2.2.2.2.2 (hP.P.app hP2.P) (bk_D2 hA hA2 hdd) hS j (by rw [List.getElem?_append_left (by rw [bk_l]; exact hj), bk_at b N E hj, he]) hc k hk (X.2.2.2.2.1 _ hl) (fun x h => by rw [hT] at h; exact h) hF hd hn hfit hlen hdg (fun H1 locs1 h1 _ h3 => kk H1 locs1 ((bk_2 h1 hj).1.e hE) (bk_2 h1 hj).2 h3)
end XB3
theorem x_X2_takes (l : Launch) (dC : Nat → ClassId) (dI : Nat → Nat → Nat) (dA : Nat → ClassId) (a : Nat) (τ : mdT) (τ2 : mdT) (a2 : Nat) (hd : a + 4 ≤ a2 ∨ a2 + 4 ≤ a) : Met l yX2_takes (ws_ yX2_takes cX2_takes 2 none) { frames := 2, cells := 0, slots := 0, locals := 120 } (xPc dC dI dA (fun H => (bkP dC dI a 4 (stE dA a τ) H) ∧ (bkP dC dI a2 4 (stE dA a2 τ2) H)) [.ref a, .ref a2]) (xEv (fun H => bkP dC dI a 4 (stE dA a τ2) H ∧ bkP dC dI a2 4 (stE dA a2 τ2) H) (fun q => bkA a 4 q ∨ bkA a2 4 q)) 0 0 (fun q => bkA a 4 q ∨ bkA a2 4 q) := by
  refine x_in (by decide) rfl (Nat.le_of_ble_eq_true rfl) (lv := [(0, .ref a), (1, .ref a2)]) rfl ?_
  intro p e s m below meth c_ X hN hnm hr hlk hP ls hl
  obtain ⟨hP, hP2⟩ := hP
  have hS : va_S (fun q => bkA a 4 q ∨ bkA a2 4 q) s.heap s.heap [] := va_S.rf
  refine lv_aload_n X.1 X.2.1 dX2_takes_0 rfl (lv_at hl 1 rfl) ?_
  refine xb_get (C := RX2) (T := TX2) (v := .ref (a2 + 1)) X in_X2 (ci := 2) rfl hP2 (j := 0) (by decide) (xe_t0 ..) 0 (by decide) q105 rfl rfl dX2_takes_1 ?_
  refine lv_iconst (v := nI 0) X.1 X.2.1 dX2_takes_4 rfl ?_
  refine lv_aload_n X.1 X.2.1 dX2_takes_5 rfl (lv_at hl 0 rfl) ?_
  refine xb_get (C := RX2) (T := TX2) (v := .ref (a + 1)) X in_X2 (ci := 2) rfl hP (j := 0) (by decide) (xe_t0 ..) 0 (by decide) q105 rfl rfl dX2_takes_6 ?_
  refine lv_iconst (v := nI 0) X.1 X.2.1 dX2_takes_9 rfl ?_
  refine lv_bipush (v := nI 6) X.1 X.2.1 dX2_takes_10 rfl ?_
  refine xb_copyi (E' := stE dA a (mdR τ 1 (va_cpy (τ2 1) (τ 1) 0 0 6))) X hl.1 q599 hP hP2 (fun _ h => Or.inl h) (fun _ h => Or.inr h) hd hS (j := 1) (j2 := 1) (by decide) (by decide) (n := 6) (n2 := 6) (f := τ2 1) (g := τ 1) rfl rfl (sp := 0) (dp := 0) (k := 6) (by decide) (by decide) (by decide) (by decide) (rest := []) (by decide) (Nat.le_of_ble_eq_true rfl) (fun i_ _ => stE_R dA a τ 1 (va_cpy (τ2 1) (τ 1) 0 0 6) i_) dX2_takes_12 (fun H locs hP hP2 hS => ?_)
  refine lv_aload_n X.1 X.2.1 dX2_takes_15 rfl (lv_at hl 1 rfl) ?_
  refine xb_get (C := RX2) (T := TX2) (v := .ref (a2 + 2)) X in_X2 (ci := 2) rfl hP2 (j := 0) (by decide) (xe_t0 ..) 1 (by decide) q108 rfl rfl dX2_takes_16 ?_
  refine lv_iconst (v := nI 0) X.1 X.2.1 dX2_takes_19 rfl ?_
  refine lv_aload_n X.1 X.2.1 dX2_takes_20 rfl (lv_at hl 0 rfl) ?_
  refine xb_get (C := RX2) (T := TX2) (v := .ref (a + 2)) X in_X2 (ci := 2) rfl hP (j := 0) (by decide) (xe_t0 ..) 1 (by decide) q108 rfl rfl dX2_takes_21 ?_
  refine lv_iconst (v := nI 0) X.1 X.2.1 dX2_takes_24 rfl ?_
  refine lv_bipush (v := nI 6) X.1 X.2.1 dX2_takes_25 rfl ?_
  refine xb_copyi (E' := stE dA a (mdR (mdR τ 1 (va_cpy (τ2 1) (τ 1) 0 0 6)) 2 (va_cpy (τ2 2) ((mdR τ 1 (va_cpy (τ2 1) (τ 1) 0 0 6)) 2) 0 0 6))) X hl.1 q599 hP hP2 (fun _ h => Or.inl h) (fun _ h => Or.inr h) hd hS (j := 2) (j2 := 2) (by decide) (by decide) (n := 6) (n2 := 6) (f := τ2 2) (g := (mdR τ 1 (va_cpy (τ2 1) (τ 1) 0 0 6)) 2) rfl rfl (sp := 0) (dp := 0) (k := 6) (by decide) (by decide) (by decide) (by decide) (rest := []) (by decide) (Nat.le_of_ble_eq_true rfl) (fun i_ _ => stE_R dA a (mdR τ 1 (va_cpy (τ2 1) (τ 1) 0 0 6)) 2 (va_cpy (τ2 2) ((mdR τ 1 (va_cpy (τ2 1) (τ 1) 0 0 6)) 2) 0 0 6) i_) dX2_takes_27 (fun H locs hP hP2 hS => ?_)
  refine lv_aload_n X.1 X.2.1 dX2_takes_30 rfl (lv_at hl 0 rfl) ?_
  refine lv_aload_n X.1 X.2.1 dX2_takes_31 rfl (lv_at hl 1 rfl) ?_
  refine xb_get (C := RX2) (T := TX2) (v := .int (τ2 0 0)) X in_X2 (ci := 2) rfl hP2 (j := 0) (by decide) (xe_t0 ..) 2 (by decide) q112 rfl rfl dX2_takes_32 ?_
  refine xb_put2 (C := RX2) (T := TX2) (E' := stE dA a (mdS (mdR (mdR τ 1 (va_cpy (τ2 1) (τ 1) 0 0 6)) 2 (va_cpy (τ2 2) ((mdR τ 1 (va_cpy (τ2 1) (τ 1) 0 0 6)) 2) 0 0 6)) 0 0 (τ2 0 0))) X in_X2 tyX2 tyX2_ok nmX2 (ci := 2) rfl hP hP2 (fun _ h => Or.inl h) (fun _ h => Or.inr h) hd hS (j := 0) (by decide) (xe_t0 ..) 2 (by decide) q112 rfl rfl rfl rfl rfl (Nat.le_of_ble_eq_true rfl) (fun i_ _ => stE_S dA a (mdR (mdR τ 1 (va_cpy (τ2 1) (τ 1) 0 0 6)) 2 (va_cpy (τ2 2) ((mdR τ 1 (va_cpy (τ2 1) (τ 1) 0 0 6)) 2) 0 0 6)) 0 0 (τ2 0 0) i_) dX2_takes_35 (fun H locs hP hP2 hS => ?_)
  refine lv_aload_n X.1 X.2.1 dX2_takes_38 rfl (lv_at hl 0 rfl) ?_
  refine lv_aload_n X.1 X.2.1 dX2_takes_39 rfl (lv_at hl 1 rfl) ?_
  refine xb_get (C := RX2) (T := TX2) (v := .int (τ2 0 1)) X in_X2 (ci := 2) rfl hP2 (j := 0) (by decide) (xe_t0 ..) 3 (by decide) q115 rfl rfl dX2_takes_40 ?_
  refine xb_put2 (C := RX2) (T := TX2) (E' := stE dA a (mdS (mdS (mdR (mdR τ 1 (va_cpy (τ2 1) (τ 1) 0 0 6)) 2 (va_cpy (τ2 2) ((mdR τ 1 (va_cpy (τ2 1) (τ 1) 0 0 6)) 2) 0 0 6)) 0 0 (τ2 0 0)) 0 1 (τ2 0 1))) X in_X2 tyX2 tyX2_ok nmX2 (ci := 2) rfl hP hP2 (fun _ h => Or.inl h) (fun _ h => Or.inr h) hd hS (j := 0) (by decide) (xe_t0 ..) 3 (by decide) q115 rfl rfl rfl rfl rfl (Nat.le_of_ble_eq_true rfl) (fun i_ _ => stE_S dA a (mdS (mdR (mdR τ 1 (va_cpy (τ2 1) (τ 1) 0 0 6)) 2 (va_cpy (τ2 2) ((mdR τ 1 (va_cpy (τ2 1) (τ 1) 0 0 6)) 2) 0 0 6)) 0 0 (τ2 0 0)) 0 1 (τ2 0 1) i_) dX2_takes_43 (fun H locs hP hP2 hS => ?_)
  refine lv_aload_n X.1 X.2.1 dX2_takes_46 rfl (lv_at hl 1 rfl) ?_
  refine xb_get (C := RX2) (T := TX2) (v := .ref (a2 + 3)) X in_X2 (ci := 2) rfl hP2 (j := 0) (by decide) (xe_t0 ..) 4 (by decide) q117 rfl rfl dX2_takes_47 ?_
  refine lv_iconst (v := nI 0) X.1 X.2.1 dX2_takes_50 rfl ?_
  refine lv_aload_n X.1 X.2.1 dX2_takes_51 rfl (lv_at hl 0 rfl) ?_
  refine xb_get (C := RX2) (T := TX2) (v := .ref (a + 3)) X in_X2 (ci := 2) rfl hP (j := 0) (by decide) (xe_t0 ..) 4 (by decide) q117 rfl rfl dX2_takes_52 ?_
  refine lv_iconst (v := nI 0) X.1 X.2.1 dX2_takes_55 rfl ?_
  refine lv_aload_n X.1 X.2.1 dX2_takes_56 rfl (lv_at hl 0 rfl) ?_
  refine xb_get (C := RX2) (T := TX2) (v := .ref (a + 3)) X in_X2 (ci := 2) rfl hP (j := 0) (by decide) (xe_t0 ..) 4 (by decide) q117 rfl rfl dX2_takes_57 ?_
  refine xb_alen X hP (j := 3) (by decide) (t := 0) (n := 36) rfl rfl dX2_takes_60 ?_
  refine xb_copyi (E' := stE dA a (mdR (mdS (mdS (mdR (mdR τ 1 (va_cpy (τ2 1) (τ 1) 0 0 6)) 2 (va_cpy (τ2 2) ((mdR τ 1 (va_cpy (τ2 1) (τ 1) 0 0 6)) 2) 0 0 6)) 0 0 (τ2 0 0)) 0 1 (τ2 0 1)) 3 (va_cpy (τ2 3) ((mdS (mdS (mdR (mdR τ 1 (va_cpy (τ2 1) (τ 1) 0 0 6)) 2 (va_cpy (τ2 2) ((mdR τ 1 (va_cpy (τ2 1) (τ 1) 0 0 6)) 2) 0 0 6)) 0 0 (τ2 0 0)) 0 1 (τ2 0 1)) 3) 0 0 36))) X hl.1 q599 hP hP2 (fun _ h => Or.inl h) (fun _ h => Or.inr h) hd hS (j := 3) (j2 := 3) (by decide) (by decide) (n := 36) (n2 := 36) (f := τ2 3) (g := (mdS (mdS (mdR (mdR τ 1 (va_cpy (τ2 1) (τ 1) 0 0 6)) 2 (va_cpy (τ2 2) ((mdR τ 1 (va_cpy (τ2 1) (τ 1) 0 0 6)) 2) 0 0 6)) 0 0 (τ2 0 0)) 0 1 (τ2 0 1)) 3) rfl rfl (sp := 0) (dp := 0) (k := 36) (by decide) (by decide) (by decide) (by decide) (rest := []) (by decide) (Nat.le_of_ble_eq_true rfl) (fun i_ _ => stE_R dA a (mdS (mdS (mdR (mdR τ 1 (va_cpy (τ2 1) (τ 1) 0 0 6)) 2 (va_cpy (τ2 2) ((mdR τ 1 (va_cpy (τ2 1) (τ 1) 0 0 6)) 2) 0 0 6)) 0 0 (τ2 0 0)) 0 1 (τ2 0 1)) 3 (va_cpy (τ2 3) ((mdS (mdS (mdR (mdR τ 1 (va_cpy (τ2 1) (τ 1) 0 0 6)) 2 (va_cpy (τ2 2) ((mdR τ 1 (va_cpy (τ2 1) (τ 1) 0 0 6)) 2) 0 0 6)) 0 0 (τ2 0 0)) 0 1 (τ2 0 1)) 3) 0 0 36) i_) dX2_takes_61 (fun H locs hP hP2 hS => ?_)
  refine lv_aload_n X.1 X.2.1 dX2_takes_64 rfl (lv_at hl 0 rfl) ?_
  refine lv_aload_n X.1 X.2.1 dX2_takes_65 rfl (lv_at hl 1 rfl) ?_
  refine xb_get (C := RX2) (T := TX2) (v := .int (τ2 0 2)) X in_X2 (ci := 2) rfl hP2 (j := 0) (by decide) (xe_t0 ..) 5 (by decide) q120 rfl rfl dX2_takes_66 ?_
  refine xb_put2 (C := RX2) (T := TX2) (E' := stE dA a (mdS (mdR (mdS (mdS (mdR (mdR τ 1 (va_cpy (τ2 1) (τ 1) 0 0 6)) 2 (va_cpy (τ2 2) ((mdR τ 1 (va_cpy (τ2 1) (τ 1) 0 0 6)) 2) 0 0 6)) 0 0 (τ2 0 0)) 0 1 (τ2 0 1)) 3 (va_cpy (τ2 3) ((mdS (mdS (mdR (mdR τ 1 (va_cpy (τ2 1) (τ 1) 0 0 6)) 2 (va_cpy (τ2 2) ((mdR τ 1 (va_cpy (τ2 1) (τ 1) 0 0 6)) 2) 0 0 6)) 0 0 (τ2 0 0)) 0 1 (τ2 0 1)) 3) 0 0 36)) 0 2 (τ2 0 2))) X in_X2 tyX2 tyX2_ok nmX2 (ci := 2) rfl hP hP2 (fun _ h => Or.inl h) (fun _ h => Or.inr h) hd hS (j := 0) (by decide) (xe_t0 ..) 5 (by decide) q120 rfl rfl rfl rfl rfl (Nat.le_of_ble_eq_true rfl) (fun i_ _ => stE_S dA a (mdR (mdS (mdS (mdR (mdR τ 1 (va_cpy (τ2 1) (τ 1) 0 0 6)) 2 (va_cpy (τ2 2) ((mdR τ 1 (va_cpy (τ2 1) (τ 1) 0 0 6)) 2) 0 0 6)) 0 0 (τ2 0 0)) 0 1 (τ2 0 1)) 3 (va_cpy (τ2 3) ((mdS (mdS (mdR (mdR τ 1 (va_cpy (τ2 1) (τ 1) 0 0 6)) 2 (va_cpy (τ2 2) ((mdR τ 1 (va_cpy (τ2 1) (τ 1) 0 0 6)) 2) 0 0 6)) 0 0 (τ2 0 0)) 0 1 (τ2 0 1)) 3) 0 0 36)) 0 2 (τ2 0 2) i_) dX2_takes_69 (fun H locs hP hP2 hS => ?_)
  exact x_rv () X hr hlk hS dX2_takes_72 trivial ⟨(stE_ext hP st_took), hP2⟩
def stTell (τ : mdT) (hs : Nat) (v r : Int32) (u : mdT) : Prop := u 1 = τ 1 ∧ u 2 = τ 2 ∧ u 0 0 = τ 0 0 ∧ u 0 1 = τ 0 1 ∧ u 0 2 = nI (rv_m11 hs + 1) ∧ ∀ k, k < 36 → u 3 k = if k = 3 * rv_m11 hs then v else if k = 3 * rv_m11 hs + 1 then r else if k = 3 * rv_m11 hs + 2 then τ 0 1 else if hs = 12 ∧ k < 33 then τ 3 (k + 3) else τ 3 k
theorem x_X2_tells (l : Launch) (dC : Nat → ClassId) (dI : Nat → Nat → Nat) (dA : Nat → ClassId) (a : Nat) (τ : mdT) (v : Int32) (r : Int32) (hs : Nat) (h2 : τ 0 2 = nI hs) (hs12 : hs ≤ 12) : Met l yX2_tells (ws_ yX2_tells cX2_tells 3 none) { frames := 2, cells := 0, slots := 0, locals := 120 } (xPc dC dI dA (bkP dC dI a 4 (stE dA a τ)) [.ref a, .int v, .int r]) (xQv (S := mdT) (fun u => stTell τ hs v r u) (fun u => (bkP dC dI a 4 (stE dA a u))) (bkA a 4)) 0 0 (bkA a 4) := by
  refine x_in (by decide) rfl (Nat.le_of_ble_eq_true rfl) (lv := [(0, .ref a), (1, .int v), (2, .int r)]) rfl ?_
  intro p e s m below meth c_ X hN hnm hr hlk hP ls hl
  have hS : va_S (bkA a 4) s.heap s.heap [] := va_S.rf
  have K34 : ∀ (τ1 : mdT) (mm : Nat) (H : Heap) (locs : List Loc), (mm = rv_m11 hs) → (mm ≤ 11) → (τ1 1 = τ 1 ∧ τ1 2 = τ 2 ∧ τ1 0 0 = τ 0 0 ∧ τ1 0 1 = τ 0 1 ∧ τ1 0 2 = nI mm ∧ ∀ k, k < 36 → τ1 3 k = if hs = 12 ∧ k < 33 then τ 3 (k + 3) else τ 3 k) → bkP dC dI a 4 (stE dA a τ1) H → va_S (bkA a 4) s.heap H locs → ∀ ls, lv_has ls 3 [(0, .ref a), (1, .int v), (2, .int r)] → W p l e { frames := 2, cells := 0, slots := 0, locals := 120 } s m [.ref a, .int v, .int r].toArray below meth c_ H locs 0 0 (MQ below (xQv (S := mdT) (fun u => stTell τ hs v r u) (fun u => (bkP dC dI a 4 (stE dA a u))) (bkA a 4)) [.ref a, .int v, .int r].toArray s 0 0 (bkA a 4)) (F0 m 34 ls []) := by
    intro τ1 mm H locs hmm h11 ht1 hP hS ls hl
    refine lv_aload_n X.1 X.2.1 dX2_tells_34 rfl (lv_at hl 0 rfl) ?_
    refine xb_get (C := RX2) (T := TX2) (v := .ref (a + 3)) X in_X2 (ci := 2) rfl hP (j := 0) (by decide) (xe_t0 ..) 4 (by decide) q117 rfl rfl dX2_tells_35 ?_
    refine lv_iconst (v := nI 3) X.1 X.2.1 dX2_tells_38 rfl ?_
    refine lv_aload_n X.1 X.2.1 dX2_tells_39 rfl (lv_at hl 0 rfl) ?_
    refine xb_get (C := RX2) (T := TX2) (v := .int (τ1 0 2)) X in_X2 (ci := 2) rfl hP (j := 0) (by decide) (xe_t0 ..) 5 (by decide) q120 rfl rfl dX2_tells_40 ?_
    refine rn_co (y := nI mm) ht1.2.2.2.2.1 ?_
    refine rn_imul X.1 X.2.1 dX2_tells_43 ?_
    refine lv_iload_n X.1 X.2.1 dX2_tells_44 rfl (lv_at hl 1 rfl) ?_
    refine xb_iast (E' := stE dA a (mdS τ1 3 (3 * mm) v)) X hP (fun _ h => h) hS (j := 3) (by decide) (n := 36) (f := τ1 3) rfl (by omega) (by decide) (fun i_ _ => stE_S dA a τ1 3 (3 * mm) v i_) dX2_tells_45 (fun H locs hP hS => ?_)
    refine lv_aload_n X.1 X.2.1 dX2_tells_46 rfl (lv_at hl 0 rfl) ?_
    refine xb_get (C := RX2) (T := TX2) (v := .ref (a + 3)) X in_X2 (ci := 2) rfl hP (j := 0) (by decide) (xe_t0 ..) 4 (by decide) q117 rfl rfl dX2_tells_47 ?_
    refine lv_iconst (v := nI 3) X.1 X.2.1 dX2_tells_50 rfl ?_
    refine lv_aload_n X.1 X.2.1 dX2_tells_51 rfl (lv_at hl 0 rfl) ?_
    refine xb_get (C := RX2) (T := TX2) (v := .int ((mdS τ1 3 (3 * mm) v) 0 2)) X in_X2 (ci := 2) rfl hP (j := 0) (by decide) (xe_t0 ..) 5 (by decide) q120 rfl rfl dX2_tells_52 ?_
    refine rn_co (y := nI mm) ht1.2.2.2.2.1 ?_
    refine rn_imul X.1 X.2.1 dX2_tells_55 ?_
    refine lv_iconst (v := nI 1) X.1 X.2.1 dX2_tells_56 rfl ?_
    refine rn_iadd X.1 X.2.1 dX2_tells_57 ?_
    refine lv_iload_n X.1 X.2.1 dX2_tells_58 rfl (lv_at hl 2 rfl) ?_
    refine xb_iast (E' := stE dA a (mdS (mdS τ1 3 (3 * mm) v) 3 ((3 * mm) + 1) r)) X hP (fun _ h => h) hS (j := 3) (by decide) (n := 36) (f := (mdS τ1 3 (3 * mm) v) 3) rfl (by omega) (by decide) (fun i_ _ => stE_S dA a (mdS τ1 3 (3 * mm) v) 3 ((3 * mm) + 1) r i_) dX2_tells_59 (fun H locs hP hS => ?_)
    refine lv_aload_n X.1 X.2.1 dX2_tells_60 rfl (lv_at hl 0 rfl) ?_
    refine xb_get (C := RX2) (T := TX2) (v := .ref (a + 3)) X in_X2 (ci := 2) rfl hP (j := 0) (by decide) (xe_t0 ..) 4 (by decide) q117 rfl rfl dX2_tells_61 ?_
    refine lv_iconst (v := nI 3) X.1 X.2.1 dX2_tells_64 rfl ?_
    refine lv_aload_n X.1 X.2.1 dX2_tells_65 rfl (lv_at hl 0 rfl) ?_
    refine xb_get (C := RX2) (T := TX2) (v := .int ((mdS (mdS τ1 3 (3 * mm) v) 3 ((3 * mm) + 1) r) 0 2)) X in_X2 (ci := 2) rfl hP (j := 0) (by decide) (xe_t0 ..) 5 (by decide) q120 rfl rfl dX2_tells_66 ?_
    refine rn_co (y := nI mm) ht1.2.2.2.2.1 ?_
    refine rn_imul X.1 X.2.1 dX2_tells_69 ?_
    refine lv_iconst (v := nI 2) X.1 X.2.1 dX2_tells_70 rfl ?_
    refine rn_iadd X.1 X.2.1 dX2_tells_71 ?_
    refine lv_aload_n X.1 X.2.1 dX2_tells_72 rfl (lv_at hl 0 rfl) ?_
    refine xb_get (C := RX2) (T := TX2) (v := .int ((mdS (mdS τ1 3 (3 * mm) v) 3 ((3 * mm) + 1) r) 0 1)) X in_X2 (ci := 2) rfl hP (j := 0) (by decide) (xe_t0 ..) 3 (by decide) q115 rfl rfl dX2_tells_73 ?_
    refine xb_iast (E' := stE dA a (mdS (mdS (mdS τ1 3 (3 * mm) v) 3 ((3 * mm) + 1) r) 3 ((3 * mm) + 2) ((mdS (mdS τ1 3 (3 * mm) v) 3 ((3 * mm) + 1) r) 0 1))) X hP (fun _ h => h) hS (j := 3) (by decide) (n := 36) (f := (mdS (mdS τ1 3 (3 * mm) v) 3 ((3 * mm) + 1) r) 3) rfl (by omega) (by decide) (fun i_ _ => stE_S dA a (mdS (mdS τ1 3 (3 * mm) v) 3 ((3 * mm) + 1) r) 3 ((3 * mm) + 2) ((mdS (mdS τ1 3 (3 * mm) v) 3 ((3 * mm) + 1) r) 0 1) i_) dX2_tells_76 (fun H locs hP hS => ?_)
    refine lv_aload_n X.1 X.2.1 dX2_tells_77 rfl (lv_at hl 0 rfl) ?_
    refine lv_dup X.1 X.2.1 dX2_tells_78 rfl ?_
    refine xb_get (C := RX2) (T := TX2) (v := .int ((mdS (mdS (mdS τ1 3 (3 * mm) v) 3 ((3 * mm) + 1) r) 3 ((3 * mm) + 2) ((mdS (mdS τ1 3 (3 * mm) v) 3 ((3 * mm) + 1) r) 0 1)) 0 2)) X in_X2 (ci := 2) rfl hP (j := 0) (by decide) (xe_t0 ..) 5 (by decide) q120 rfl rfl dX2_tells_79 ?_
    refine rn_co (y := nI mm) ht1.2.2.2.2.1 ?_
    refine lv_iconst (v := nI 1) X.1 X.2.1 dX2_tells_82 rfl ?_
    refine rn_iadd X.1 X.2.1 dX2_tells_83 ?_
    refine xb_put (C := RX2) (T := TX2) (E' := stE dA a (mdS (mdS (mdS (mdS τ1 3 (3 * mm) v) 3 ((3 * mm) + 1) r) 3 ((3 * mm) + 2) ((mdS (mdS τ1 3 (3 * mm) v) 3 ((3 * mm) + 1) r) 0 1)) 0 2 (nI (mm + 1)))) X in_X2 tyX2 tyX2_ok nmX2 (ci := 2) rfl hP (fun _ h => h) hS (j := 0) (by decide) (xe_t0 ..) 5 (by decide) q120 rfl rfl rfl rfl rfl (Nat.le_of_ble_eq_true rfl) (fun i_ _ => stE_S dA a (mdS (mdS (mdS τ1 3 (3 * mm) v) 3 ((3 * mm) + 1) r) 3 ((3 * mm) + 2) ((mdS (mdS τ1 3 (3 * mm) v) 3 ((3 * mm) + 1) r) 0 1)) 0 2 (nI (mm + 1)) i_) dX2_tells_84 (fun H locs hP hS => ?_)
    exact x_rv (mdS (mdS (mdS (mdS τ1 3 (3 * mm) v) 3 ((3 * mm) + 1) r) 3 ((3 * mm) + 2) ((mdS (mdS τ1 3 (3 * mm) v) 3 ((3 * mm) + 1) r) 0 1)) 0 2 (nI (mm + 1))) X hr hlk hS dX2_tells_87 (by obtain ⟨e1, e2, e3, e4, e5, e6⟩ := ht1; subst hmm; refine ⟨e1, e2, e3, e4, rfl, fun k hk => ?_⟩; show upd (upd (upd (τ1 3) (3 * rv_m11 hs) v) (3 * rv_m11 hs + 1) r) (3 * rv_m11 hs + 2) (τ1 0 1) k = _; simp only [upd]; rw [e4, e6 k hk]; grind) hP
  refine lv_aload_n X.1 X.2.1 dX2_tells_0 rfl (lv_at hl 0 rfl) ?_
  refine xb_get (C := RX2) (T := TX2) (v := .int (τ 0 2)) X in_X2 (ci := 2) rfl hP (j := 0) (by decide) (xe_t0 ..) 5 (by decide) q120 rfl rfl dX2_tells_1 ?_
  refine rn_co (y := nI hs) h2 ?_
  refine lv_bipush (v := nI 12) X.1 X.2.1 dX2_tells_4 rfl ?_
  refine rn_icmp_ne (tgt := 34) X.1 X.2.1 (by omega) (by omega) dX2_tells_6 (by decide) (fun c_6 => ?_) (fun c_6 => ?_)
  · exact K34 τ hs _ _ (by unfold rv_m11; rw [if_neg c_6]) (by omega) ⟨rfl, rfl, rfl, rfl, h2, fun k hk => by rw [if_neg (fun z => c_6 z.1)]⟩ hP hS ls (lv_sub hl [0, 1, 2] rfl)
  · refine lv_aload_n X.1 X.2.1 dX2_tells_9 rfl (lv_at hl 0 rfl) ?_
    refine xb_get (C := RX2) (T := TX2) (v := .ref (a + 3)) X in_X2 (ci := 2) rfl hP (j := 0) (by decide) (xe_t0 ..) 4 (by decide) q117 rfl rfl dX2_tells_10 ?_
    refine lv_iconst (v := nI 3) X.1 X.2.1 dX2_tells_13 rfl ?_
    refine lv_aload_n X.1 X.2.1 dX2_tells_14 rfl (lv_at hl 0 rfl) ?_
    refine xb_get (C := RX2) (T := TX2) (v := .ref (a + 3)) X in_X2 (ci := 2) rfl hP (j := 0) (by decide) (xe_t0 ..) 4 (by decide) q117 rfl rfl dX2_tells_15 ?_
    refine lv_iconst (v := nI 0) X.1 X.2.1 dX2_tells_18 rfl ?_
    refine lv_bipush (v := nI 33) X.1 X.2.1 dX2_tells_19 rfl ?_
    refine xb_copyS (E' := stE dA a (mdR τ 3 (va_cpy (τ 3) (τ 3) 3 0 33))) X hl.1 q599 hP (fun _ h => h) hS (j := 3) (j2 := 3) (by decide) (by decide) (n := 36) (n2 := 36) (f := τ 3) (g := τ 3) rfl rfl (sp := 3) (dp := 0) (k := 33) (by decide) (by decide) (by decide) (by decide) (rest := []) (by decide) (Nat.le_of_ble_eq_true rfl) (fun i_ _ => stE_R dA a τ 3 (va_cpy (τ 3) (τ 3) 3 0 33) i_) dX2_tells_21 (fun H locs hP hS => ?_)
    refine lv_aload_n X.1 X.2.1 dX2_tells_24 rfl (lv_at hl 0 rfl) ?_
    refine lv_dup X.1 X.2.1 dX2_tells_25 rfl ?_
    refine xb_get (C := RX2) (T := TX2) (v := .int ((mdR τ 3 (va_cpy (τ 3) (τ 3) 3 0 33)) 0 2)) X in_X2 (ci := 2) rfl hP (j := 0) (by decide) (xe_t0 ..) 5 (by decide) q120 rfl rfl dX2_tells_26 ?_
    refine rn_co (y := nI hs) h2 ?_
    refine lv_iconst (v := nI 1) X.1 X.2.1 dX2_tells_29 rfl ?_
    refine rn_isub X.1 X.2.1 (by omega) dX2_tells_30 ?_
    refine xb_put (C := RX2) (T := TX2) (E' := stE dA a (mdS (mdR τ 3 (va_cpy (τ 3) (τ 3) 3 0 33)) 0 2 (nI (hs - 1)))) X in_X2 tyX2 tyX2_ok nmX2 (ci := 2) rfl hP (fun _ h => h) hS (j := 0) (by decide) (xe_t0 ..) 5 (by decide) q120 rfl rfl rfl rfl rfl (Nat.le_of_ble_eq_true rfl) (fun i_ _ => stE_S dA a (mdR τ 3 (va_cpy (τ 3) (τ 3) 3 0 33)) 0 2 (nI (hs - 1)) i_) dX2_tells_31 (fun H locs hP hS => ?_)
    exact K34 (mdS (mdR τ 3 (va_cpy (τ 3) (τ 3) 3 0 33)) 0 2 (nI (hs - 1))) (hs - 1) _ _ (by unfold rv_m11; rw [if_pos c_6]; omega) (by omega) ⟨rfl, rfl, rfl, rfl, rfl, fun k hk => by show va_cpy (τ 3) (τ 3) 3 0 33 k = _; unfold va_cpy; by_cases e : k < 33 <;> simp [e, c_6, Nat.add_comm]⟩ hP hS ls (lv_sub hl [0, 1, 2] rfl)
theorem x_X1_begins (l : Launch) (dC : Nat → ClassId) (dI : Nat → Nat → Nat) (dA : Nat → ClassId) (b : Nat) (S : mdT) (V : Nat → Option Nat) (c : Nat) (f : Nat → Int32) : Met l yX1_begins (ws_ yX1_begins cX1_begins 1 none) { frames := 1, cells := 0, slots := 0, locals := 60 } (xPc dC dI dA (bkP dC dI b 43 (sbE dA b S V)) [.ref b]) (xQv (S := mdT) (fun u => shR c 0 0 0 0 0 0 (fun k => if k < 115 then 0 else f k) u) (fun u => (bkP dC dI b 43 (sbE dA b u V))) (bkA b 43)) 0 0 (bkA b 43) := by
  refine x_in (by decide) rfl (Nat.le_of_ble_eq_true rfl) (lv := [(0, .ref b)]) rfl ?_
  intro p e s m below meth c_ X hN hnm hr hlk hP ls hl
  have hS : va_S (bkA b 43) s.heap s.heap [] := va_S.rf
  refine lv_aload_n X.1 X.2.1 dX1_begins_0 rfl (lv_at hl 0 rfl) ?_
  refine lv_iconst (v := nI 0) X.1 X.2.1 dX1_begins_1 rfl ?_
  refine xb_put (C := RX1) (T := TX1) (E' := sbE dA b (mdS S 0 0 (nI 0)) V) X in_X1 tyX1 tyX1_ok nmX1 (ci := 1) rfl hP (fun _ h => h) hS (j := 0) (by decide) (xe_s0 ..) 2 (by decide) q143 rfl rfl rfl rfl rfl (Nat.le_of_ble_eq_true rfl) (fun i_ _ => sbE_S dA b S V 0 0 (nI 0) i_) dX1_begins_2 (fun H locs hP hS => ?_)
  refine lv_aload_n X.1 X.2.1 dX1_begins_5 rfl (lv_at hl 0 rfl) ?_
  refine lv_iconst (v := nI 0) X.1 X.2.1 dX1_begins_6 rfl ?_
  refine xb_put (C := RX1) (T := TX1) (E' := sbE dA b (mdS (mdS S 0 0 (nI 0)) 0 1 (nI 0)) V) X in_X1 tyX1 tyX1_ok nmX1 (ci := 1) rfl hP (fun _ h => h) hS (j := 0) (by decide) (xe_s0 ..) 5 (by decide) q151 rfl rfl rfl rfl rfl (Nat.le_of_ble_eq_true rfl) (fun i_ _ => sbE_S dA b (mdS S 0 0 (nI 0)) V 0 1 (nI 0) i_) dX1_begins_7 (fun H locs hP hS => ?_)
  refine lv_aload_n X.1 X.2.1 dX1_begins_10 rfl (lv_at hl 0 rfl) ?_
  refine lv_iconst (v := nI 0) X.1 X.2.1 dX1_begins_11 rfl ?_
  refine xb_put (C := RX1) (T := TX1) (E' := sbE dA b (mdS (mdS (mdS S 0 0 (nI 0)) 0 1 (nI 0)) 0 2 (nI 0)) V) X in_X1 tyX1 tyX1_ok nmX1 (ci := 1) rfl hP (fun _ h => h) hS (j := 0) (by decide) (xe_s0 ..) 7 (by decide) q157 rfl rfl rfl rfl rfl (Nat.le_of_ble_eq_true rfl) (fun i_ _ => sbE_S dA b (mdS (mdS S 0 0 (nI 0)) 0 1 (nI 0)) V 0 2 (nI 0) i_) dX1_begins_12 (fun H locs hP hS => ?_)
  refine lv_aload_n X.1 X.2.1 dX1_begins_15 rfl (lv_at hl 0 rfl) ?_
  refine xb_get (C := RX1) (T := TX1) (v := .ref (b + 6)) X in_X1 (ci := 1) rfl hP (j := 0) (by decide) (xe_s0 ..) 8 (by decide) q159 rfl rfl dX1_begins_16 ?_
  refine lv_iconst (v := nI 0) X.1 X.2.1 dX1_begins_19 rfl ?_
  refine xb_putN (host := "RentedViews") (C := RX2) (T := TX2) (E' := sbE dA b (mdS (mdS (mdS (mdS S 0 0 (nI 0)) 0 1 (nI 0)) 0 2 (nI 0)) 6 0 (nI 0)) V) X in_X2 tyX2 tyX2_ok nmX2 (ci := 2) rfl hP (fun _ h => h) hS (j := 6) (by decide) (xe_s6 ..) 2 (by decide) (x_nest hN q111 rfl) rfl rfl rfl rfl rfl (Nat.le_of_ble_eq_true rfl) (fun i_ _ => sbE_S dA b (mdS (mdS (mdS S 0 0 (nI 0)) 0 1 (nI 0)) 0 2 (nI 0)) V 6 0 (nI 0) i_) dX1_begins_20 (fun H locs hP hS => ?_)
  refine lv_aload_n X.1 X.2.1 dX1_begins_23 rfl (lv_at hl 0 rfl) ?_
  refine xb_get (C := RX1) (T := TX1) (v := .ref (b + 6)) X in_X1 (ci := 1) rfl hP (j := 0) (by decide) (xe_s0 ..) 8 (by decide) q159 rfl rfl dX1_begins_24 ?_
  refine lv_iconst (v := nI 0) X.1 X.2.1 dX1_begins_27 rfl ?_
  refine xb_putN (host := "RentedViews") (C := RX2) (T := TX2) (E' := sbE dA b (mdS (mdS (mdS (mdS (mdS S 0 0 (nI 0)) 0 1 (nI 0)) 0 2 (nI 0)) 6 0 (nI 0)) 6 1 (nI 0)) V) X in_X2 tyX2 tyX2_ok nmX2 (ci := 2) rfl hP (fun _ h => h) hS (j := 6) (by decide) (xe_s6 ..) 3 (by decide) (x_nest hN q114 rfl) rfl rfl rfl rfl rfl (Nat.le_of_ble_eq_true rfl) (fun i_ _ => sbE_S dA b (mdS (mdS (mdS (mdS S 0 0 (nI 0)) 0 1 (nI 0)) 0 2 (nI 0)) 6 0 (nI 0)) V 6 1 (nI 0) i_) dX1_begins_28 (fun H locs hP hS => ?_)
  refine lv_aload_n X.1 X.2.1 dX1_begins_31 rfl (lv_at hl 0 rfl) ?_
  refine xb_get (C := RX1) (T := TX1) (v := .ref (b + 6)) X in_X1 (ci := 1) rfl hP (j := 0) (by decide) (xe_s0 ..) 8 (by decide) q159 rfl rfl dX1_begins_32 ?_
  refine lv_iconst (v := nI 0) X.1 X.2.1 dX1_begins_35 rfl ?_
  refine xb_putN (host := "RentedViews") (C := RX2) (T := TX2) (E' := sbE dA b (mdS (mdS (mdS (mdS (mdS (mdS S 0 0 (nI 0)) 0 1 (nI 0)) 0 2 (nI 0)) 6 0 (nI 0)) 6 1 (nI 0)) 6 2 (nI 0)) V) X in_X2 tyX2 tyX2_ok nmX2 (ci := 2) rfl hP (fun _ h => h) hS (j := 6) (by decide) (xe_s6 ..) 5 (by decide) (x_nest hN q119 rfl) rfl rfl rfl rfl rfl (Nat.le_of_ble_eq_true rfl) (fun i_ _ => sbE_S dA b (mdS (mdS (mdS (mdS (mdS S 0 0 (nI 0)) 0 1 (nI 0)) 0 2 (nI 0)) 6 0 (nI 0)) 6 1 (nI 0)) V 6 2 (nI 0) i_) dX1_begins_36 (fun H locs hP hS => ?_)
  refine lv_aload_n X.1 X.2.1 dX1_begins_39 rfl (lv_at hl 0 rfl) ?_
  refine lv_iconst (v := nI 0) X.1 X.2.1 dX1_begins_40 rfl ?_
  refine xb_put (C := RX1) (T := TX1) (E' := sbE dA b (mdS (mdS (mdS (mdS (mdS (mdS (mdS S 0 0 (nI 0)) 0 1 (nI 0)) 0 2 (nI 0)) 6 0 (nI 0)) 6 1 (nI 0)) 6 2 (nI 0)) 0 3 (nI 0)) V) X in_X1 tyX1 tyX1_ok nmX1 (ci := 1) rfl hP (fun _ h => h) hS (j := 0) (by decide) (xe_s0 ..) 10 (by decide) q163 rfl rfl rfl rfl rfl (Nat.le_of_ble_eq_true rfl) (fun i_ _ => sbE_S dA b (mdS (mdS (mdS (mdS (mdS (mdS S 0 0 (nI 0)) 0 1 (nI 0)) 0 2 (nI 0)) 6 0 (nI 0)) 6 1 (nI 0)) 6 2 (nI 0)) V 0 3 (nI 0) i_) dX1_begins_41 (fun H locs hP hS => ?_)
  exact x_rv (mdS (mdS (mdS (mdS (mdS (mdS (mdS S 0 0 (nI 0)) 0 1 (nI 0)) 0 2 (nI 0)) 6 0 (nI 0)) 6 1 (nI 0)) 6 2 (nI 0)) 0 3 (nI 0)) X hr hlk hS dX1_begins_44 ⟨⟨by omega, by omega, by omega, by omega⟩, ⟨rfl, rfl, rfl, rfl⟩, ⟨rfl, rfl, rfl, rfl⟩, fun _ h => absurd h (by omega), fun _ h => absurd h (by omega), fun _ h => absurd h (by omega), ⟨by omega, by omega, rfl, rfl, rfl, rfl, rfl, fun _ h => absurd h (by omega), fun _ h => absurd h (by omega), fun _ h => absurd h (by omega), fun _ h => absurd h (by omega)⟩, fun _ h => absurd h (by omega)⟩ hP
theorem sh_hang {c many rent rd un hs ev : Nat} {f : Nat → Int32} {S : mdT} (h : shR c many rent rd un hs ev f S) (hm : many < 6) (kd sz pr we : Int32) : shR c (many + 1) rent rd 0 hs ev (upd (rv_lvf f many kd sz pr we) 6 0) (mdS (mdS (mdS (mdS S 2 many (nI 0)) 8 many (-1)) 0 0 (nI (many + 1))) 0 3 (nI 0)) := by
  have hr6 := h.r6
  have hs12 := h.h12
  have hd6 := h.d6
  have ek : ∀ k, k ≠ 0 → k ≠ 6 → (k < 7 + 6 * many ∨ 7 + 6 * many + 6 ≤ k) → upd (rv_lvf f many kd sz pr we) 6 0 k = f k := fun k h1 h2 h3 => by
    unfold rv_lvf; simp only [upd]; repeat rw [if_neg (by omega)]
  have e4 : upd (rv_lvf f many kd sz pr we) 6 0 (7 + 6 * many + 4) = -1 := by unfold rv_lvf; simp only [upd]; rw [if_neg (by omega), if_neg (by omega), if_neg (by omega), if_pos trivial]
  have e5 : upd (rv_lvf f many kd sz pr we) 6 0 (7 + 6 * many + 5) = 0 := by unfold rv_lvf; simp only [upd]; rw [if_neg (by omega), if_neg (by omega), if_pos trivial]
  have e0 : upd (rv_lvf f many kd sz pr we) 6 0 0 = nI (many + 1) := by unfold rv_lvf; simp only [upd]; rw [if_neg (by omega), if_pos trivial]
  refine ⟨⟨by omega, h.r6, h.d6, by omega⟩, ⟨e0, by rw [ek 1 (by omega) (by omega) (by omega)]; exact h.f1, by rw [ek 5 (by omega) (by omega) (by omega)]; exact h.f5, rfl⟩, ⟨rfl, h.nr, h.nd, rfl⟩, fun v hv => ?_, fun r hr => ?_, fun k hk => ?_, ?_, fun k hk => absurd hk (by omega)⟩
  · show upd (S 2) many (nI 0) v = _
    unfold upd
    by_cases e : v = many
    · subst e; rw [if_pos rfl]; exact e5.symm
    · rw [if_neg e, h.thg (by omega)]; exact (ek _ (by omega) (by omega) (by omega)).symm
  · rw [ek _ (by omega) (by omega) (by omega), ek _ (by omega) (by omega) (by omega)]; exact ⟨h.wal hr, h.wan hr⟩
  · rw [ek _ (by omega) (by omega) (by omega)]; exact h.rea hk
  · refine ⟨h.h12, h.evc, ?_, ?_, ?_, h.eve, h.tol, fun r hr => ?_, fun v hv => ?_, fun k hk => ?_, fun k hk => ?_⟩
    · exact (ek 4 (by omega) (by omega) (by omega)).trans h.f4
    · exact (ek 2 (by omega) (by omega) (by omega)).trans h.f2
    · exact h.tak.trans (ek 3 (by omega) (by omega) (by omega)).symm
    · rw [rv_snap_p _ (by omega), ek _ (by omega) (by omega) (by omega)]; exact h.pur hr
    · rw [rv_snap_l _ (by omega)]
      show upd (S 8) many (-1) v = _
      unfold upd
      by_cases e : v = many
      · subst e; rw [if_pos rfl]; exact e4.symm
      · rw [if_neg e, h.lt (by omega)]; exact (ek _ (by omega) (by omega) (by omega)).symm
    · rw [rv_snap_h, ek _ (by omega) (by omega) (by omega)]; exact h.his hk
    · rw [show 15 + 3 * k + 2 = 15 + (3 * k + 2) by omega, rv_snap_h, ek _ (by omega) (by omega) (by omega)]; exact h.hn hk
theorem sh_come {c many rent rd un hs ev : Nat} {f : Nat → Int32} {S : mdT} (h : shR c many rent rd un hs ev f S) (hm : rent < 6) (wl pu wa : Int32) : shR c many (rent + 1) rd 0 hs ev (upd (rv_lrf f rent wl pu wa) 6 0) (mdS (mdS (mdS (mdS (mdS S 3 rent wl) 4 rent wa) 7 rent pu) 0 1 (nI (rent + 1))) 0 3 (nI 0)) := by
  have hm6 := h.m6
  have hs12 := h.h12
  have hd6 := h.d6
  have ek : ∀ k, k ≠ 1 → k ≠ 6 → (k < 43 + 3 * rent ∨ 43 + 3 * rent + 3 ≤ k) → upd (rv_lrf f rent wl pu wa) 6 0 k = f k := fun k h1 h2 h3 => by
    unfold rv_lrf; simp only [upd]; repeat rw [if_neg (by omega)]
  have e0 : upd (rv_lrf f rent wl pu wa) 6 0 (43 + 3 * rent) = wl := by unfold rv_lrf; simp only [upd]; rw [if_neg (by omega), if_neg (by omega), if_neg (by omega), if_neg (by omega), if_pos trivial]
  have e1 : upd (rv_lrf f rent wl pu wa) 6 0 (43 + 3 * rent + 1) = pu := by unfold rv_lrf; simp only [upd]; rw [if_neg (by omega), if_neg (by omega), if_neg (by omega), if_pos trivial]
  have e2 : upd (rv_lrf f rent wl pu wa) 6 0 (43 + 3 * rent + 2) = wa := by unfold rv_lrf; simp only [upd]; rw [if_neg (by omega), if_neg (by omega), if_pos trivial]
  have e3 : upd (rv_lrf f rent wl pu wa) 6 0 1 = nI (rent + 1) := by unfold rv_lrf; simp only [upd]; rw [if_neg (by omega), if_pos trivial]
  refine ⟨⟨h.m6, by omega, h.d6, by omega⟩, ⟨by rw [ek 0 (by omega) (by omega) (by omega)]; exact h.f0, e3, by rw [ek 5 (by omega) (by omega) (by omega)]; exact h.f5, rfl⟩, ⟨h.nm, rfl, h.nd, rfl⟩, fun v hv => ?_, fun r hr => ?_, fun k hk => ?_, ?_, fun k hk => absurd hk (by omega)⟩
  · rw [ek _ (by omega) (by omega) (by omega)]; exact h.thg hv
  · show upd (S 3) rent wl r = _ ∧ upd (S 4) rent wa r = _
    unfold upd
    by_cases e : r = rent
    · subst e; rw [if_pos rfl, if_pos rfl]; exact ⟨e0.symm, e2.symm⟩
    · rw [if_neg e, if_neg e, h.wal (by omega), h.wan (by omega)]; exact ⟨(ek _ (by omega) (by omega) (by omega)).symm, (ek _ (by omega) (by omega) (by omega)).symm⟩
  · rw [ek _ (by omega) (by omega) (by omega)]; exact h.rea hk
  · refine ⟨h.h12, h.evc, ?_, ?_, ?_, h.eve, h.tol, fun r hr => ?_, fun v hv => ?_, fun k hk => ?_, fun k hk => ?_⟩
    · exact (ek 4 (by omega) (by omega) (by omega)).trans h.f4
    · exact (ek 2 (by omega) (by omega) (by omega)).trans h.f2
    · exact h.tak.trans (ek 3 (by omega) (by omega) (by omega)).symm
    · rw [rv_snap_p _ (by omega)]
      show upd (S 7) rent pu r = _
      unfold upd
      by_cases e : r = rent
      · subst e; rw [if_pos rfl]; exact e1.symm
      · rw [if_neg e, h.pur (by omega)]; exact (ek _ (by omega) (by omega) (by omega)).symm
    · rw [rv_snap_l _ (by omega), ek _ (by omega) (by omega) (by omega)]; exact h.lt hv
    · rw [rv_snap_h, ek _ (by omega) (by omega) (by omega)]; exact h.his hk
    · rw [show 15 + 3 * k + 2 = 15 + (3 * k + 2) by omega, rv_snap_h, ek _ (by omega) (by omega) (by omega)]; exact h.hn hk
theorem x_X1_hangs (l : Launch) (dC : Nat → ClassId) (dI : Nat → Nat → Nat) (dA : Nat → ClassId) (b : Nat) (S : mdT) (V : Nat → Option Nat) (va : Nat) (c : Nat) (many : Nat) (rent : Nat) (rd : Nat) (un : Nat) (hs : Nat) (ev : Nat) (f : Nat → Int32) (hR : shR c many rent rd un hs ev f S) (kd : Nat) (sz : Int32) (pr : Int32) (we : Int32) (hkd : kd < 6) (hm5 : many < 6) (hTva : ¬ bkA b 43 va) : Met l yX1_hangs (ws_ yX1_hangs cX1_hangs 2 none) { frames := 1, cells := 0, slots := 0, locals := 60 } (xPc dC dI dA (fun H => (bkP dC dI b 43 (sbE dA b S V) H) ∧ (vwP dC dI va kd sz pr we H)) [.ref b, .ref va]) (xQv (S := mdT) (fun u => shR c (many + 1) rent rd 0 hs ev (upd (rv_lvf f many (nI kd) sz pr we) 6 0) u) (fun u => (bkP dC dI b 43 (sbE dA b u (va_up V many (some va))))) (bkA b 43)) 0 0 (bkA b 43) := by
  refine x_in (by decide) rfl (Nat.le_of_ble_eq_true rfl) (lv := [(0, .ref b), (1, .ref va)]) rfl ?_
  intro p e s m below meth c_ X hN hnm hr hlk hP ls hl
  obtain ⟨hP, hva⟩ := hP
  have hm := hR.m6
  have hr6 := hR.r6
  have hd6 := hR.d6
  have hu8 := hR.u8
  have hs12 := hR.h12
  have hS : va_S (bkA b 43) s.heap s.heap [] := va_S.rf
  have hR0 := hR
  refine lv_aload_n X.1 X.2.1 dX1_hangs_0 rfl (lv_at hl 0 rfl) ?_
  refine xb_get (C := RX1) (T := TX1) (v := .ref (b + 1)) X in_X1 (ci := 1) rfl hP (j := 0) (by decide) (xe_s0 ..) 0 (by decide) q137 rfl rfl dX1_hangs_1 ?_
  refine lv_aload_n X.1 X.2.1 dX1_hangs_4 rfl (lv_at hl 0 rfl) ?_
  refine xb_get (C := RX1) (T := TX1) (v := .int (S 0 0)) X in_X1 (ci := 1) rfl hP (j := 0) (by decide) (xe_s0 ..) 2 (by decide) q143 rfl rfl dX1_hangs_5 ?_
  refine rn_co (y := nI many) hR.nm ?_
  refine lv_aload_n X.1 X.2.1 dX1_hangs_8 rfl (lv_at hl 1 rfl) ?_
  refine xb_aast (E' := sbE dA b S (va_up V many (some va))) X hP (fun _ h => h) hS (j := 1) (by decide) (t := 3) (C := RX6) (f := V) rfl rfl (vw_any X.2.2.2.2.2 hN hkd hva) (k := many) (by omega) (by decide) (fun i _ => sbE_V ..) dX1_hangs_9 (fun H locs hP hS => ?_)
  refine lv_aload_n X.1 X.2.1 dX1_hangs_10 rfl (lv_at hl 0 rfl) ?_
  refine xb_get (C := RX1) (T := TX1) (v := .ref (b + 2)) X in_X1 (ci := 1) rfl hP (j := 0) (by decide) (xe_s0 ..) 1 (by decide) q140 rfl rfl dX1_hangs_11 ?_
  refine lv_aload_n X.1 X.2.1 dX1_hangs_14 rfl (lv_at hl 0 rfl) ?_
  refine xb_get (C := RX1) (T := TX1) (v := .int (S 0 0)) X in_X1 (ci := 1) rfl hP (j := 0) (by decide) (xe_s0 ..) 2 (by decide) q143 rfl rfl dX1_hangs_15 ?_
  refine rn_co (y := nI many) hR.nm ?_
  refine lv_iconst (v := nI 0) X.1 X.2.1 dX1_hangs_18 rfl ?_
  refine xb_iast (E' := sbE dA b (mdS S 2 many (nI 0)) (va_up V many (some va))) X hP (fun _ h => h) hS (j := 2) (by decide) (n := 6) (f := S 2) rfl (by omega) (by decide) (fun i_ _ => sbE_S dA b S (va_up V many (some va)) 2 many (nI 0) i_) dX1_hangs_19 (fun H locs hP hS => ?_)
  refine lv_aload_n X.1 X.2.1 dX1_hangs_20 rfl (lv_at hl 0 rfl) ?_
  refine xb_get (C := RX1) (T := TX1) (v := .ref (b + 6)) X in_X1 (ci := 1) rfl hP (j := 0) (by decide) (xe_s0 ..) 8 (by decide) q159 rfl rfl dX1_hangs_21 ?_
  refine xb_getN (host := "RentedViews") (C := RX2) (T := TX2) (v := .ref (b + 8)) X in_X2 (ci := 2) rfl hP (j := 6) (by decide) (xe_s6 ..) 1 (by decide) (x_nest hN q109 rfl) rfl rfl dX1_hangs_24 ?_
  refine lv_aload_n X.1 X.2.1 dX1_hangs_27 rfl (lv_at hl 0 rfl) ?_
  refine xb_get (C := RX1) (T := TX1) (v := .int ((mdS S 2 many (nI 0)) 0 0)) X in_X1 (ci := 1) rfl hP (j := 0) (by decide) (xe_s0 ..) 2 (by decide) q143 rfl rfl dX1_hangs_28 ?_
  refine rn_co (y := nI many) hR0.nm ?_
  refine lv_iconst (v := (-1)) X.1 X.2.1 dX1_hangs_31 rfl ?_
  refine xb_iast (E' := sbE dA b (mdS (mdS S 2 many (nI 0)) 8 many (-1)) (va_up V many (some va))) X hP (fun _ h => h) hS (j := 8) (by decide) (n := 6) (f := (mdS S 2 many (nI 0)) 8) rfl (by omega) (by decide) (fun i_ _ => sbE_S dA b (mdS S 2 many (nI 0)) (va_up V many (some va)) 8 many (-1) i_) dX1_hangs_32 (fun H locs hP hS => ?_)
  refine lv_aload_n X.1 X.2.1 dX1_hangs_33 rfl (lv_at hl 0 rfl) ?_
  refine lv_dup X.1 X.2.1 dX1_hangs_34 rfl ?_
  refine xb_get (C := RX1) (T := TX1) (v := .int ((mdS (mdS S 2 many (nI 0)) 8 many (-1)) 0 0)) X in_X1 (ci := 1) rfl hP (j := 0) (by decide) (xe_s0 ..) 2 (by decide) q143 rfl rfl dX1_hangs_35 ?_
  refine rn_co (y := nI many) hR0.nm ?_
  refine lv_iconst (v := nI 1) X.1 X.2.1 dX1_hangs_38 rfl ?_
  refine rn_iadd X.1 X.2.1 dX1_hangs_39 ?_
  refine xb_put (C := RX1) (T := TX1) (E' := sbE dA b (mdS (mdS (mdS S 2 many (nI 0)) 8 many (-1)) 0 0 (nI (many + 1))) (va_up V many (some va))) X in_X1 tyX1 tyX1_ok nmX1 (ci := 1) rfl hP (fun _ h => h) hS (j := 0) (by decide) (xe_s0 ..) 2 (by decide) q143 rfl rfl rfl rfl rfl (Nat.le_of_ble_eq_true rfl) (fun i_ _ => sbE_S dA b (mdS (mdS S 2 many (nI 0)) 8 many (-1)) (va_up V many (some va)) 0 0 (nI (many + 1)) i_) dX1_hangs_40 (fun H locs hP hS => ?_)
  refine lv_aload_n X.1 X.2.1 dX1_hangs_43 rfl (lv_at hl 0 rfl) ?_
  refine lv_iconst (v := nI 0) X.1 X.2.1 dX1_hangs_44 rfl ?_
  refine xb_put (C := RX1) (T := TX1) (E' := sbE dA b (mdS (mdS (mdS (mdS S 2 many (nI 0)) 8 many (-1)) 0 0 (nI (many + 1))) 0 3 (nI 0)) (va_up V many (some va))) X in_X1 tyX1 tyX1_ok nmX1 (ci := 1) rfl hP (fun _ h => h) hS (j := 0) (by decide) (xe_s0 ..) 10 (by decide) q163 rfl rfl rfl rfl rfl (Nat.le_of_ble_eq_true rfl) (fun i_ _ => sbE_S dA b (mdS (mdS (mdS S 2 many (nI 0)) 8 many (-1)) 0 0 (nI (many + 1))) (va_up V many (some va)) 0 3 (nI 0) i_) dX1_hangs_45 (fun H locs hP hS => ?_)
  exact x_rv (mdS (mdS (mdS (mdS S 2 many (nI 0)) 8 many (-1)) 0 0 (nI (many + 1))) 0 3 (nI 0)) X hr hlk hS dX1_hangs_48 (sh_hang hR0 (by omega) _ _ _ _) hP
theorem x_X1_comes (l : Launch) (dC : Nat → ClassId) (dI : Nat → Nat → Nat) (dA : Nat → ClassId) (b : Nat) (S : mdT) (V : Nat → Option Nat) (wl : Int32) (pu : Int32) (wa : Int32) (c : Nat) (many : Nat) (rent : Nat) (rd : Nat) (un : Nat) (hs : Nat) (ev : Nat) (f : Nat → Int32) (hR : shR c many rent rd un hs ev f S) (hr5 : rent < 6) : Met l yX1_comes (ws_ yX1_comes cX1_comes 4 none) { frames := 1, cells := 0, slots := 0, locals := 60 } (xPc dC dI dA (bkP dC dI b 43 (sbE dA b S V)) [.ref b, .int wl, .int pu, .int wa]) (xQv (S := mdT) (fun u => shR c many (rent + 1) rd 0 hs ev (upd (rv_lrf f rent wl pu wa) 6 0) u) (fun u => (bkP dC dI b 43 (sbE dA b u V))) (bkA b 43)) 0 0 (bkA b 43) := by
  refine x_in (by decide) rfl (Nat.le_of_ble_eq_true rfl) (lv := [(0, .ref b), (1, .int wl), (2, .int pu), (3, .int wa)]) rfl ?_
  intro p e s m below meth c_ X hN hnm hr hlk hP ls hl
  have hm := hR.m6
  have hr6 := hR.r6
  have hd6 := hR.d6
  have hu8 := hR.u8
  have hs12 := hR.h12
  have hS : va_S (bkA b 43) s.heap s.heap [] := va_S.rf
  have hR0 := hR
  refine lv_aload_n X.1 X.2.1 dX1_comes_0 rfl (lv_at hl 0 rfl) ?_
  refine xb_get (C := RX1) (T := TX1) (v := .ref (b + 3)) X in_X1 (ci := 1) rfl hP (j := 0) (by decide) (xe_s0 ..) 3 (by decide) q147 rfl rfl dX1_comes_1 ?_
  refine lv_aload_n X.1 X.2.1 dX1_comes_4 rfl (lv_at hl 0 rfl) ?_
  refine xb_get (C := RX1) (T := TX1) (v := .int (S 0 1)) X in_X1 (ci := 1) rfl hP (j := 0) (by decide) (xe_s0 ..) 5 (by decide) q151 rfl rfl dX1_comes_5 ?_
  refine rn_co (y := nI rent) hR.nr ?_
  refine lv_iload_n X.1 X.2.1 dX1_comes_8 rfl (lv_at hl 1 rfl) ?_
  refine xb_iast (E' := sbE dA b (mdS S 3 rent wl) V) X hP (fun _ h => h) hS (j := 3) (by decide) (n := 6) (f := S 3) rfl (by omega) (by decide) (fun i_ _ => sbE_S dA b S V 3 rent wl i_) dX1_comes_9 (fun H locs hP hS => ?_)
  refine lv_aload_n X.1 X.2.1 dX1_comes_10 rfl (lv_at hl 0 rfl) ?_
  refine xb_get (C := RX1) (T := TX1) (v := .ref (b + 4)) X in_X1 (ci := 1) rfl hP (j := 0) (by decide) (xe_s0 ..) 4 (by decide) q149 rfl rfl dX1_comes_11 ?_
  refine lv_aload_n X.1 X.2.1 dX1_comes_14 rfl (lv_at hl 0 rfl) ?_
  refine xb_get (C := RX1) (T := TX1) (v := .int ((mdS S 3 rent wl) 0 1)) X in_X1 (ci := 1) rfl hP (j := 0) (by decide) (xe_s0 ..) 5 (by decide) q151 rfl rfl dX1_comes_15 ?_
  refine rn_co (y := nI rent) hR0.nr ?_
  refine lv_iload_n X.1 X.2.1 dX1_comes_18 rfl (lv_at hl 3 rfl) ?_
  refine xb_iast (E' := sbE dA b (mdS (mdS S 3 rent wl) 4 rent wa) V) X hP (fun _ h => h) hS (j := 4) (by decide) (n := 6) (f := (mdS S 3 rent wl) 4) rfl (by omega) (by decide) (fun i_ _ => sbE_S dA b (mdS S 3 rent wl) V 4 rent wa i_) dX1_comes_19 (fun H locs hP hS => ?_)
  refine lv_aload_n X.1 X.2.1 dX1_comes_20 rfl (lv_at hl 0 rfl) ?_
  refine xb_get (C := RX1) (T := TX1) (v := .ref (b + 6)) X in_X1 (ci := 1) rfl hP (j := 0) (by decide) (xe_s0 ..) 8 (by decide) q159 rfl rfl dX1_comes_21 ?_
  refine xb_getN (host := "RentedViews") (C := RX2) (T := TX2) (v := .ref (b + 7)) X in_X2 (ci := 2) rfl hP (j := 6) (by decide) (xe_s6 ..) 0 (by decide) (x_nest hN q106 rfl) rfl rfl dX1_comes_24 ?_
  refine lv_aload_n X.1 X.2.1 dX1_comes_27 rfl (lv_at hl 0 rfl) ?_
  refine xb_get (C := RX1) (T := TX1) (v := .int ((mdS (mdS S 3 rent wl) 4 rent wa) 0 1)) X in_X1 (ci := 1) rfl hP (j := 0) (by decide) (xe_s0 ..) 5 (by decide) q151 rfl rfl dX1_comes_28 ?_
  refine rn_co (y := nI rent) hR0.nr ?_
  refine lv_iload_n X.1 X.2.1 dX1_comes_31 rfl (lv_at hl 2 rfl) ?_
  refine xb_iast (E' := sbE dA b (mdS (mdS (mdS S 3 rent wl) 4 rent wa) 7 rent pu) V) X hP (fun _ h => h) hS (j := 7) (by decide) (n := 6) (f := (mdS (mdS S 3 rent wl) 4 rent wa) 7) rfl (by omega) (by decide) (fun i_ _ => sbE_S dA b (mdS (mdS S 3 rent wl) 4 rent wa) V 7 rent pu i_) dX1_comes_32 (fun H locs hP hS => ?_)
  refine lv_aload_n X.1 X.2.1 dX1_comes_33 rfl (lv_at hl 0 rfl) ?_
  refine lv_dup X.1 X.2.1 dX1_comes_34 rfl ?_
  refine xb_get (C := RX1) (T := TX1) (v := .int ((mdS (mdS (mdS S 3 rent wl) 4 rent wa) 7 rent pu) 0 1)) X in_X1 (ci := 1) rfl hP (j := 0) (by decide) (xe_s0 ..) 5 (by decide) q151 rfl rfl dX1_comes_35 ?_
  refine rn_co (y := nI rent) hR0.nr ?_
  refine lv_iconst (v := nI 1) X.1 X.2.1 dX1_comes_38 rfl ?_
  refine rn_iadd X.1 X.2.1 dX1_comes_39 ?_
  refine xb_put (C := RX1) (T := TX1) (E' := sbE dA b (mdS (mdS (mdS (mdS S 3 rent wl) 4 rent wa) 7 rent pu) 0 1 (nI (rent + 1))) V) X in_X1 tyX1 tyX1_ok nmX1 (ci := 1) rfl hP (fun _ h => h) hS (j := 0) (by decide) (xe_s0 ..) 5 (by decide) q151 rfl rfl rfl rfl rfl (Nat.le_of_ble_eq_true rfl) (fun i_ _ => sbE_S dA b (mdS (mdS (mdS S 3 rent wl) 4 rent wa) 7 rent pu) V 0 1 (nI (rent + 1)) i_) dX1_comes_40 (fun H locs hP hS => ?_)
  refine lv_aload_n X.1 X.2.1 dX1_comes_43 rfl (lv_at hl 0 rfl) ?_
  refine lv_iconst (v := nI 0) X.1 X.2.1 dX1_comes_44 rfl ?_
  refine xb_put (C := RX1) (T := TX1) (E' := sbE dA b (mdS (mdS (mdS (mdS (mdS S 3 rent wl) 4 rent wa) 7 rent pu) 0 1 (nI (rent + 1))) 0 3 (nI 0)) V) X in_X1 tyX1 tyX1_ok nmX1 (ci := 1) rfl hP (fun _ h => h) hS (j := 0) (by decide) (xe_s0 ..) 10 (by decide) q163 rfl rfl rfl rfl rfl (Nat.le_of_ble_eq_true rfl) (fun i_ _ => sbE_S dA b (mdS (mdS (mdS (mdS S 3 rent wl) 4 rent wa) 7 rent pu) 0 1 (nI (rent + 1))) V 0 3 (nI 0) i_) dX1_comes_45 (fun H locs hP hS => ?_)
  exact x_rv (mdS (mdS (mdS (mdS (mdS S 3 rent wl) 4 rent wa) 7 rent pu) 0 1 (nI (rent + 1))) 0 3 (nI 0)) X hr hlk hS dX1_comes_48 (sh_come hR0 (by omega) _ _ _) hP
