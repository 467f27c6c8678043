set_option maxRecDepth 100000
/-! the component: what a view can be -/
theorem xkv_X0_299 : xKV RX0 yX0_tries cX0_tries 6 (some .int) 299 1 := ⟨q823, q825, qs19, q61, q826, by decide +kernel⟩
/-- a start that speaks of the tables and the heap: what statics and constants hold -/
def xPz (dC : Nat → ClassId) (dI : Nat → Nat → Nat) (dA : Nat → ClassId) (Z : State → Heap → Prop) (P : Heap → Prop) (As : List Value) : Array Value → State → Prop := va_Pc As (fun U => (P U.heap ∧ Z U U.heap) ∧ rvK dC dI dA U ∧ rvN U)
def zOk (Z : State → Heap → Prop) : Prop := ∀ (u U : State) (H : Heap), u.vm.Alike U.vm → Z u H → Z U H
section XZ
variable {p : Program} {l : Launch} {e : Env} {R : Room} {s : State} {m : MethodId} {args : Array Value} {below : List Frame} {meth : Method} {c_ : Code} {H : Heap} {locs : List Loc} {cells slots mc ms : Nat} {Q : State → Prop}
variable {cc : ByteArray} {pc nL : Nat} {ls : Array Slot} {rest st0 : List Value} {dC : Nat → ClassId} {dI : Nat → Nat → Nat} {dA : Nat → ClassId} {H0 : Heap} {own : String} {A : Nat → Prop}
variable {Z : State → Heap → Prop} {P : Heap → Prop} {y : MethodName} {bytes : ByteArray} {maxL idx k fr lo b : Nat} {ret : Option FieldType} {As : List Value} {free : Addr → Prop} {Qc : Array Value → State → Outcome → State → Prop}
theorem x_blindZ (hz : zOk Z) : FrameBlind (xPz dC dI dA Z P As) := fun a U g mk q => by
  obtain ⟨q0, ⟨qP, qZ⟩, qK, qN⟩ := q
  exact ⟨q0, ⟨qP, hz U (U.calling g mk a) _ (Vm.Alike.refl U.vm) qZ⟩, rvK.moved (u := U) (U := U.calling g mk a) (Vm.Alike.refl U.vm) qK, rvN.same (u := U) (U := U.calling g mk a) rfl qN⟩
theorem x_preVZ (hz : zOk Z) (X : xC dC dI dA p s m c_ args cc nL own) (hN : rvN s) (hP : P H) (hZ : Z s H) {C : String} (hr : xRecv s H C b) : PreV s H C b (xPz dC dI dA Z P (.ref b :: As)) As :=
  ⟨x_blindZ hz, hr, fun U hU hW => ⟨rfl, ⟨by rw [hU]; exact hP, by rw [hU]; exact hz s U H hW.alike hZ⟩, rvK.moved hW.alike X.2.2.2.2.2, hN.warm hW⟩⟩
theorem x_runVZ {hz : zOk Z} (X : xC dC dI dA p s m c_ args cc nL own) (hN : rvN s) (hP : P H) (hZ : Z s H) (hM : Met l y (ws_ y bytes maxL ret) { frames := fr, cells := mc, slots := ms, locals := lo } (xPz dC dI dA Z P (.ref b :: As)) Qc mc ms free) (K : xKV own y bytes maxL ret idx k) (hr : xRecv s H y.cls b) (hn : As.length = k) (hst : st0 = As.reverse ++ .ref b :: rest) (hR : fr + 1 ≤ R.frames ∧ 8 + (maxL + 11) + lo ≤ R.locals) (hsz : ls.size = nL) (hw : (rest.map fun v => v.category).sum ≤ 8) (hdg : decode cc pc = .ok (.invokevirtual idx, 3)) (hf : cells + mc ≤ R.cells ∧ slots + ms ≤ R.slots) :
    va_Run p l e R s m args below meth c_ H locs cells slots mc ms (F0 m pc ls st0) rest (Qc (Value.ref b :: As).toArray) free :=
  va_runV (As := As) (rest := rest) (nL := nL) (cc := cc) (x_fix X) hM (cwV k X.2.2.2.2.1 (lw_V K.1 K.2.1 K.2.2.1 K.2.2.2.1 K.2.2.2.2.1) rfl rfl rfl ⟨rfl, K.2.2.2.2.2⟩ hR) (x_preVZ hz X hN hP hZ hr) rfl hn hsz hst (lv_room hw) hdg hf
theorem x_inZ {C : String} (hy : plainName y.cls = true) (hC : y.cls = C) (hsl : (lg_sl As).length ≤ maxL) {rm : Room} {lv : List (Nat × Value)} (hlv : lv_args 0 As = lv)
    (body : ∀ p e s m below meth c, xC dC dI dA p s m c As.toArray bytes maxL C → rvN s → meth.name = y.name → meth.sig.returnType = ret → meth.locks = false → P s.heap → Z s s.heap → ∀ ls, lv_has ls maxL lv → W p l e rm s m As.toArray below meth c s.heap [] 0 0 (MQ below Qc As.toArray s mc ms free) (F0 m 0 ls [])) :
    Met l y (ws_ y bytes maxL ret) rm (xPz dC dI dA Z P As) Qc mc ms free := by
  refine Met.ofW (cc := bytes) (maxL := maxL) (ret := ret) hy rfl ?_
  intro p e s m args below meth c s₁ B hml hv
  obtain ⟨rfl, ⟨hP, hZ⟩, hK, hN⟩ := hv
  have hts := atoms_spec (ws := ws_ y bytes maxL ret) B.pre
  have hts : ∀ w ∈ lw_all, w.before _ s = true := fun w h => hts w (List.mem_cons_of_mem _ h)
  have hown : s.vm.findClass y.cls = some m.cls := findClass_of_methodNamed B.named
  rw [hC] at hown
  have hl := lv_entry As (n := maxL) hsl
  rw [lg_entry_eq]
  generalize (lg_sl As ++ List.replicate (maxL - (lg_sl As).length) Slot.unset).toArray = ls at hl ⊢
  rw [hlv] at hl
  exact body p e s m below meth c ⟨B.exec, B.bytes, hml, hown, hts, hK⟩ hN (name_of_methodNamed B.named B.method).1 B.returns B.notSynchronized hP hZ ls hl
end XZ
/-- the static row of all views that there can be -/
def xZa (n t : Nat) (ad : Nat → Nat) (U : State) (H : Heap) : Prop := va_Z RX0 "ALL" "[LRentedViews$View;" (.ref t) (fun q => n ≤ q) U H ∧ va_T (.object RX6) t 36 (fun j => .ref (ad j)) (fun q => n ≤ q) U H
theorem xZa_ok (n t : Nat) (ad : Nat → Nat) : zOk (xZa n t ad) := fun _ _ _ hv h => ⟨h.1.moved hv, h.2.moved hv⟩
theorem xZa.kept {n t : Nat} {ad : Nat → Nat} {U : State} {H H1 : Heap} (h : xZa n t ad U H) (hq : ∀ a : Nat, a < H.size → ¬ n ≤ a → H1[a]? = H[a]?) : xZa n t ad U H1 := ⟨h.1.kept hq, h.2.kept hq⟩
theorem xZ_at {n t : Nat} {ad : Nat → Nat} {U : State} {H H1 : Heap} {locs : List Loc} (h : xZa n t ad U H) (hS : va_S (bkA n 96) H H1 locs) : xZa n t ad U H1 := h.kept (fun a ha hn => hS.2.1 a ha (fun z => hn z.1))
theorem xS_up {n : Nat} {H H1 : Heap} {locs : List Loc} (hS : va_S (bkA n 96) H H1 locs) : va_S (fun q => n ≤ q) H H1 locs := ⟨hS.1, fun q h1 h2 => hS.2.1 q h1 (fun z => h2 z.1), fun l hl => (hS.2.2 l hl).1⟩
def alV (dC : Nat → ClassId) (dI : Nat → Nat → Nat) (n : Nat) (ad : Nat → Nat) (H : Heap) : Prop := ∀ p, p < 36 → ad p < n ∧ vwP dC dI (ad p) (p / 6) 1 0 (nI (p % 6)) H
theorem alV.at {dC : Nat → ClassId} {dI : Nat → Nat → Nat} {n : Nat} {ad : Nat → Nat} {H H1 : Heap} {locs : List Loc} (h : alV dC dI n ad H) (hS : va_S (bkA n 96) H H1 locs) : alV dC dI n ad H1 := fun p hp =>
  ⟨(h p hp).1, (h p hp).2.kept0 (hS.2.1 (ad p) (h p hp).2.lt (fun z => Nat.not_le.mpr (h p hp).1 z.1))⟩
theorem rv_may_f {f : Nat → Int32} {v kd we : Int32} {k : Nat} (h : rv_may f v kd we k = false) : ∀ r, k ≤ r → rv_may f v kd we r = false := by
  intro r hr
  induction r with
  | zero => obtain rfl : k = 0 := (by omega); exact h
  | succ r ih =>
    by_cases e : k = r + 1
    · subst e; exact h
    · rw [rv_may, ih (by omega)]; rfl
theorem rv_nz (b : Bool) : vp_nar .boolean (rb_i b) = rb_i b := by cases b <;> rfl
def xPair (ξ : mdT) (f : Nat → Int32) (rd : Nat) (v : Int32) (u : mdT) : Prop := (∀ i, i ≠ 94 → u i = ξ i) ∧ ∀ q, q < 36 → u 94 q = rb_i (rv_pair f rd v q)
set_option maxHeartbeats 2000000 in
theorem x_X0_tries (l : Launch) (dC : Nat → ClassId) (dI : Nat → Nat → Nat) (dA : Nat → ClassId) (n : Nat) (ξ : mdT) (V : Nat → Option Nat) (V2 : Nat → Option Nat) (im : Nat → Option Nat) (ab : Int64) (be : Int64) (t_ : Nat) (ad : Nat → Nat) (v : Int32) (c : Nat) (many : Nat) (rent : Nat) (rd : Nat) (un : Nat) (hs : Nat) (ev : Nat) (f : Nat → Int32) (hR : shR c many rent rd un hs ev f (fun i_ => ξ (1 + i_))) : Met l yX0_tries (ws_ yX0_tries cX0_tries 6 (some .int)) { frames := 4, cells := 0, slots := 0, locals := 240 } (xPz dC dI dA (xZa n t_ ad) (fun H => (bkP dC dI n 96 (xE dA n ξ V V2 im ab be) H) ∧ (alV dC dI n ad H)) [.ref n, .int v]) (xQi (S := mdT) (fun r_ u => r_ = rv_iscnt (rv_pair f rd v) 36 ∧ xPair ξ f rd v u) (fun u => (bkP dC dI n 96 (xE dA n u V V2 im ab be))) (bkA n 96)) 0 0 (bkA n 96) := by
  refine x_inZ (by decide) rfl (Nat.le_of_ble_eq_true rfl) (lv := [(0, .ref n), (1, .int v)]) rfl ?_
  intro p e s m below meth c_ X hN hnm hr hlk hP hZs ls hl
  obtain ⟨hP, hAl⟩ := hP
  have hm := hR.m6
  have hr6 := hR.r6
  have hd6 := hR.d6
  have hu8 := hR.u8
  have hs12 := hR.h12
  have hS : va_S (bkA n 96) s.heap s.heap [] := va_S.rf
  have K4 : ∀ (k4_ : Nat) (x : Int32) (p_ : Nat) (ξ1 : mdT) (H : Heap) (locs : List Loc), 36 - p_ = k4_ → (p_ ≤ 36) → (∀ i, i ≠ 94 → ξ1 i = ξ i) → (∀ q, q < p_ → ξ1 94 q = rb_i (rv_pair f rd v q)) → (x = rv_iscnt (rv_pair f rd v) p_) → bkP dC dI n 96 (xE dA n ξ1 V V2 im ab be) H → va_S (bkA n 96) s.heap H locs → ∀ ls, lv_has ls 6 [(0, .ref n), (1, .int v), (2, .int x), (3, .int (nI p_))] → W p l e { frames := 4, cells := 0, slots := 0, locals := 240 } s m [.ref n, .int v].toArray below meth c_ H locs 0 0 (MQ below (xQi (S := mdT) (fun r_ u => r_ = rv_iscnt (rv_pair f rd v) 36 ∧ xPair ξ f rd v u) (fun u => (bkP dC dI n 96 (xE dA n u V V2 im ab be))) (bkA n 96)) [.ref n, .int v].toArray s 0 0 (bkA n 96)) (F0 m 4 ls []) := by
    intro k4_
    induction k4_ using Nat.strongRecOn with
    | _ k4_ ih4 =>
      intro x p_ ξ1 H locs hm4_ hp hq hpr hx_ hP hS ls hl
      have hR := hR.cg (S' := fun i_ => ξ1 (1 + i_)) (fun i hi => hq (1 + i) (by omega)) (fun _ _ => rfl)
      have K104 : ∀ (so : Bool), (p_ < 36) → (so = rv_may f v (nI (p_ / 6)) (nI (p_ % 6)) rd) → ∀ ls, lv_has ls 6 [(0, .ref n), (1, .int v), (2, .int x), (3, .int (nI p_)), (4, .int (rb_i so))] → W p l e { frames := 4, cells := 0, slots := 0, locals := 240 } s m [.ref n, .int v].toArray below meth c_ H locs 0 0 (MQ below (xQi (S := mdT) (fun r_ u => r_ = rv_iscnt (rv_pair f rd v) 36 ∧ xPair ξ f rd v u) (fun u => (bkP dC dI n 96 (xE dA n u V V2 im ab be))) (bkA n 96)) [.ref n, .int v].toArray s 0 0 (bkA n 96)) (F0 m 104 ls []) := by
        intro so hp6 hso ls hl
        refine lv_aload_n X.1 X.2.1 dX0_tries_104 rfl (lv_at hl 0 rfl) ?_
        refine xb_get (C := RX0) (T := TX0) (v := .ref (n + 94)) X in_X0 (ci := 0) rfl hP (j := 0) (by decide) (xe_x0 ..) 12 (by decide) q263 rfl rfl dX0_tries_105 ?_
        refine lv_iload_n X.1 X.2.1 dX0_tries_108 rfl (lv_at hl 3 rfl) ?_
        refine lv_iload X.1 X.2.1 dX0_tries_109 (lv_at hl 4 rfl) ?_
        refine xb_zast (E' := xE dA n (mdS ξ1 94 p_ (vp_nar .boolean (rb_i so))) V V2 im ab be) X hP (fun _ h => h) hS (j := 94) (by decide) (n := 36) (f := ξ1 94) rfl (by omega) (by decide) (fun i_ _ => xE_S dA n ξ1 V V2 im ab be 94 p_ (vp_nar .boolean (rb_i so)) i_) dX0_tries_111 (fun H locs hP hS => ?_)
        have hR := xR_S hR (j := 94) (k := p_) (v := vp_nar .boolean (rb_i so)) (by decide)
        refine lv_iload_n X.1 X.2.1 dX0_tries_112 rfl (lv_at hl 2 rfl) ?_
        refine lv_iload X.1 X.2.1 dX0_tries_113 (lv_at hl 4 rfl) ?_
        refine rn_zt (tgt := 122) X.1 X.2.1 dX0_tries_115 (by decide) (fun c_115 => ?_) (fun c_115 => ?_)
        · refine lv_iconst (v := nI 0) X.1 X.2.1 dX0_tries_122 rfl ?_
          refine lv_iadd X.1 X.2.1 dX0_tries_123 ?_
          refine lv_istore_n (lv' := [(2, .int (x + 0)), (0, .ref n), (1, .int v), (3, .int (nI p_)), (4, .int (rb_i so))]) X.1 X.2.1 dX0_tries_124 rfl hl (by decide) rfl (fun ls hl => ?_)
          refine rn_iinc (lv' := [(3, .int (nI (p_ + 1))), (2, .int (x + 0)), (0, .ref n), (1, .int v), (4, .int (rb_i so))]) X.1 X.2.1 dX0_tries_125 hl (k := 3) rfl (by decide) rfl (fun ls hl => ?_)
          refine lv_goto (tgt := 4) X.1 X.2.1 dX0_tries_128 (by decide) ?_
          exact ih4 _ (by omega) (x + 0) (p_ + 1) (mdS ξ1 94 p_ (vp_nar .boolean (rb_i so))) _ _ rfl (by omega) (fun i h => (mdS_row _ _ _ h).trans (hq i h)) (fun q hq1 => by show upd (ξ1 94) p_ (vp_nar .boolean (rb_i so)) q = _; unfold upd; by_cases e : q = p_; (subst e; rw [if_pos rfl, rv_nz, hso, rv_pair]); (rw [if_neg e]; exact hpr q (by omega))) (by rw [rv_iscnt, rv_pair, ← hso, ← hx_]; first | (rw [if_pos c_115]; done) | (rw [if_pos c_115]; rfl) | (rw [if_neg (rv_nf c_115)]; done) | (rw [if_neg (rv_nf c_115)]; rfl)) hP hS ls (lv_sub hl [2, 3, 1, 0] rfl)
        · refine lv_iconst (v := nI 1) X.1 X.2.1 dX0_tries_118 rfl ?_
          refine lv_goto (tgt := 123) X.1 X.2.1 dX0_tries_119 (by decide) ?_
          refine lv_iadd X.1 X.2.1 dX0_tries_123 ?_
          refine lv_istore_n (lv' := [(2, .int (x + 1)), (0, .ref n), (1, .int v), (3, .int (nI p_)), (4, .int (rb_i so))]) X.1 X.2.1 dX0_tries_124 rfl hl (by decide) rfl (fun ls hl => ?_)
          refine rn_iinc (lv' := [(3, .int (nI (p_ + 1))), (2, .int (x + 1)), (0, .ref n), (1, .int v), (4, .int (rb_i so))]) X.1 X.2.1 dX0_tries_125 hl (k := 3) rfl (by decide) rfl (fun ls hl => ?_)
          refine lv_goto (tgt := 4) X.1 X.2.1 dX0_tries_128 (by decide) ?_
          exact ih4 _ (by omega) (x + 1) (p_ + 1) (mdS ξ1 94 p_ (vp_nar .boolean (rb_i so))) _ _ rfl (by omega) (fun i h => (mdS_row _ _ _ h).trans (hq i h)) (fun q hq1 => by show upd (ξ1 94) p_ (vp_nar .boolean (rb_i so)) q = _; unfold upd; by_cases e : q = p_; (subst e; rw [if_pos rfl, rv_nz, hso, rv_pair]); (rw [if_neg e]; exact hpr q (by omega))) (by rw [rv_iscnt, rv_pair, ← hso, ← hx_]; first | (rw [if_pos c_115]; done) | (rw [if_pos c_115]; rfl) | (rw [if_neg (rv_nf c_115)]; done) | (rw [if_neg (rv_nf c_115)]; rfl)) hP hS ls (lv_sub hl [2, 3, 1, 0] rfl)
      have K19 : ∀ (k19_ : Nat) (so : Bool) (k : Nat), rd - k = k19_ → (p_ < 36) → (k ≤ rd) → (so = rv_may f v (nI (p_ / 6)) (nI (p_ % 6)) k) → ∀ ls, lv_has ls 6 [(0, .ref n), (1, .int v), (2, .int x), (3, .int (nI p_)), (4, .int (rb_i so)), (5, .int (nI k))] → W p l e { frames := 4, cells := 0, slots := 0, locals := 240 } s m [.ref n, .int v].toArray below meth c_ H locs 0 0 (MQ below (xQi (S := mdT) (fun r_ u => r_ = rv_iscnt (rv_pair f rd v) 36 ∧ xPair ξ f rd v u) (fun u => (bkP dC dI n 96 (xE dA n u V V2 im ab be))) (bkA n 96)) [.ref n, .int v].toArray s 0 0 (bkA n 96)) (F0 m 19 ls []) := by
        intro k19_
        induction k19_ using Nat.strongRecOn with
        | _ k19_ ih19 =>
          intro so k hm19_ hp6 hk hso ls hl
          refine lv_iload X.1 X.2.1 dX0_tries_19 (lv_at hl 5 rfl) ?_
          refine lv_aload_n X.1 X.2.1 dX0_tries_21 rfl (lv_at hl 0 rfl) ?_
          refine xb_get (C := RX0) (T := TX0) (v := .ref (n + 1)) X in_X0 (ci := 0) rfl hP (j := 0) (by decide) (xe_x0 ..) 0 (by decide) q248 rfl rfl dX0_tries_22 ?_
          refine xb_getN (host := "RentedViews") (C := RX1) (T := TX1) (v := .int (ξ1 1 2)) X in_X1 (ci := 1) rfl hP (j := 1) (by decide) (xe_x1 ..) 7 (by decide) (x_nest hN q158 rfl) rfl rfl dX0_tries_25 ?_
          refine rn_co (y := nI rd) hR.nd ?_
          refine rn_icmp_ge (tgt := 104) X.1 X.2.1 (by omega) (by omega) dX0_tries_28 (by decide) (fun c_28 => ?_) (fun c_28 => ?_)
          · exact K104 so hp6 (by rw [hso, show k = rd by omega]) ls (lv_sub hl [0, 1, 2, 3, 4] rfl)
          · refine lv_iload X.1 X.2.1 dX0_tries_31 (lv_at hl 4 rfl) ?_
            refine rn_zt (tgt := 104) X.1 X.2.1 dX0_tries_33 (by decide) (fun c_33 => ?_) (fun c_33 => ?_)
            · exact K104 so hp6 (by rw [c_33, rv_may_f (hso.symm.trans c_33) rd hk]) ls (lv_sub hl [0, 1, 2, 3, 4] rfl)
            · refine lv_aload_n X.1 X.2.1 dX0_tries_36 rfl (lv_at hl 0 rfl) ?_
              refine xb_get (C := RX0) (T := TX0) (v := .ref (n + 1)) X in_X0 (ci := 0) rfl hP (j := 0) (by decide) (xe_x0 ..) 0 (by decide) q248 rfl rfl dX0_tries_37 ?_
              refine xb_getN (host := "RentedViews") (C := RX1) (T := TX1) (v := .ref (n + 6)) X in_X1 (ci := 1) rfl hP (j := 1) (by decide) (xe_x1 ..) 6 (by decide) (x_nest hN q156 rfl) rfl rfl dX0_tries_40 ?_
              refine lv_iconst (v := nI 3) X.1 X.2.1 dX0_tries_43 rfl ?_
              refine lv_iload X.1 X.2.1 dX0_tries_44 (lv_at hl 5 rfl) ?_
              refine rn_imul X.1 X.2.1 dX0_tries_46 ?_
              refine xb_iald X hP (j := 6) (by decide) (n := 18) (f := ξ1 6) rfl (by omega) (by decide) dX0_tries_47 ?_
              refine rn_co (y := f (97 + (3 * k))) (hR.rea (by omega)) ?_
              refine lv_iload_n X.1 X.2.1 dX0_tries_48 rfl (lv_at hl 1 rfl) ?_
              refine lv_icmp_ne (tgt := 91) X.1 X.2.1 dX0_tries_49 (by decide) (fun (c_49 : ¬ f (97 + (3 * k)) = v) => ?_) (fun (c_49 : f (97 + (3 * k)) = v) => ?_)
              · refine lv_iconst (v := nI 1) X.1 X.2.1 dX0_tries_91 rfl ?_
                refine lv_goto (tgt := 96) X.1 X.2.1 dX0_tries_92 (by decide) ?_
                refine lv_istore (lv' := [(4, .int (nI 1)), (0, .ref n), (1, .int v), (2, .int x), (3, .int (nI p_)), (5, .int (nI k))]) X.1 X.2.1 dX0_tries_96 hl (by decide) rfl (fun ls hl => ?_)
                refine rn_iinc (lv' := [(5, .int (nI (k + 1))), (4, .int (nI 1)), (0, .ref n), (1, .int v), (2, .int x), (3, .int (nI p_))]) X.1 X.2.1 dX0_tries_98 hl (k := 5) rfl (by decide) rfl (fun ls hl => ?_)
                refine lv_goto (tgt := 19) X.1 X.2.1 dX0_tries_101 (by decide) ?_
                exact ih19 _ (by omega) true (k + 1) rfl hp6 (by omega) (by rw [rv_may, ← hso, c_33]; first | (rw [decide_eq_true c_49]; rfl) | (rw [decide_eq_true c_88, Bool.or_true]; rfl) | (rw [decide_eq_false c_88, decide_eq_false (fun z => z c_49)]; rfl)) ls (lv_sub hl [2, 3, 4, 5, 1, 0] rfl)
              · refine va_gets X.1 X.2.1 hZs.1 (xS_up hS) X.2.2.2.1 (X.2.2.2.2.1 _ q827) (fun x h => h) dX0_tries_52 ?_
                refine lv_iload_n X.1 X.2.1 dX0_tries_55 rfl (lv_at hl 3 rfl) ?_
                refine vb_tq (v := .ref (ad p_)) X.1 X.2.1 hZs.2 (xS_up hS) (vp_in_nI (n := p_) (N := 36) (by omega) (by decide)) (by rw [nI_clamp (by omega)]) dX0_tries_56 ?_
                refine lv_aload_n X.1 X.2.1 dX0_tries_57 rfl (lv_at hl 0 rfl) ?_
                refine xb_get (C := RX0) (T := TX0) (v := .ref (n + 1)) X in_X0 (ci := 0) rfl hP (j := 0) (by decide) (xe_x0 ..) 0 (by decide) q248 rfl rfl dX0_tries_58 ?_
                refine xb_getN (host := "RentedViews") (C := RX1) (T := TX1) (v := .ref (n + 6)) X in_X1 (ci := 1) rfl hP (j := 1) (by decide) (xe_x1 ..) 6 (by decide) (x_nest hN q156 rfl) rfl rfl dX0_tries_61 ?_
                refine lv_iconst (v := nI 3) X.1 X.2.1 dX0_tries_64 rfl ?_
                refine lv_iload X.1 X.2.1 dX0_tries_65 (lv_at hl 5 rfl) ?_
                refine rn_imul X.1 X.2.1 dX0_tries_67 ?_
                refine lv_iconst (v := nI 1) X.1 X.2.1 dX0_tries_68 rfl ?_
                refine rn_iadd X.1 X.2.1 dX0_tries_69 ?_
                refine xb_iald X hP (j := 6) (by decide) (n := 18) (f := ξ1 6) rfl (by omega) (by decide) dX0_tries_70 ?_
                refine rn_co (y := f (97 + 3 * k + 1)) ((hR.rea (by omega)).trans (congrArg f (by omega))) ?_
                refine vd_X0_shows (f (97 + 3 * k + 1)) X hN (show p_ / 6 < 6 by omega) ((hAl.at hS) p_ (by omega)).2 (rest := []) ⟨Nat.le_of_ble_eq_true rfl, Nat.le_of_ble_eq_true rfl⟩ hl.1 (Nat.le_of_ble_eq_true rfl) dX0_tries_71 ⟨Nat.le_of_ble_eq_true rfl, Nat.le_of_ble_eq_true rfl⟩ ?_
                refine lv_aload_n X.1 X.2.1 dX0_tries_74 rfl (lv_at hl 0 rfl) ?_
                refine xb_get (C := RX0) (T := TX0) (v := .ref (n + 1)) X in_X0 (ci := 0) rfl hP (j := 0) (by decide) (xe_x0 ..) 0 (by decide) q248 rfl rfl dX0_tries_75 ?_
                refine xb_getN (host := "RentedViews") (C := RX1) (T := TX1) (v := .ref (n + 6)) X in_X1 (ci := 1) rfl hP (j := 1) (by decide) (xe_x1 ..) 6 (by decide) (x_nest hN q156 rfl) rfl rfl dX0_tries_78 ?_
                refine lv_iconst (v := nI 3) X.1 X.2.1 dX0_tries_81 rfl ?_
                refine lv_iload X.1 X.2.1 dX0_tries_82 (lv_at hl 5 rfl) ?_
                refine rn_imul X.1 X.2.1 dX0_tries_84 ?_
                refine lv_iconst (v := nI 2) X.1 X.2.1 dX0_tries_85 rfl ?_
                refine rn_iadd X.1 X.2.1 dX0_tries_86 ?_
                refine xb_iald X hP (j := 6) (by decide) (n := 18) (f := ξ1 6) rfl (by omega) (by decide) dX0_tries_87 ?_
                refine rn_co (y := f (97 + 3 * k + 2)) ((hR.rea (by omega)).trans (congrArg f (by omega))) ?_
                refine lv_icmp_ne (tgt := 95) X.1 X.2.1 dX0_tries_88 (by decide) (fun (c_88 : ¬ rv_weather (nI (p_ / 6)) (nI (p_ % 6)) (f (97 + 3 * k + 1)) = f (97 + 3 * k + 2)) => ?_) (fun (c_88 : rv_weather (nI (p_ / 6)) (nI (p_ % 6)) (f (97 + 3 * k + 1)) = f (97 + 3 * k + 2)) => ?_)
                · refine lv_iconst (v := nI 0) X.1 X.2.1 dX0_tries_95 rfl ?_
                  refine lv_istore (lv' := [(4, .int (nI 0)), (0, .ref n), (1, .int v), (2, .int x), (3, .int (nI p_)), (5, .int (nI k))]) X.1 X.2.1 dX0_tries_96 hl (by decide) rfl (fun ls hl => ?_)
                  refine rn_iinc (lv' := [(5, .int (nI (k + 1))), (4, .int (nI 0)), (0, .ref n), (1, .int v), (2, .int x), (3, .int (nI p_))]) X.1 X.2.1 dX0_tries_98 hl (k := 5) rfl (by decide) rfl (fun ls hl => ?_)
                  refine lv_goto (tgt := 19) X.1 X.2.1 dX0_tries_101 (by decide) ?_
                  exact ih19 _ (by omega) false (k + 1) rfl hp6 (by omega) (by rw [rv_may, ← hso, c_33]; first | (rw [decide_eq_true c_49]; rfl) | (rw [decide_eq_true c_88, Bool.or_true]; rfl) | (rw [decide_eq_false c_88, decide_eq_false (fun z => z c_49)]; rfl)) ls (lv_sub hl [2, 3, 4, 5, 1, 0] rfl)
                · refine lv_iconst (v := nI 1) X.1 X.2.1 dX0_tries_91 rfl ?_
                  refine lv_goto (tgt := 96) X.1 X.2.1 dX0_tries_92 (by decide) ?_
                  refine lv_istore (lv' := [(4, .int (nI 1)), (0, .ref n), (1, .int v), (2, .int x), (3, .int (nI p_)), (5, .int (nI k))]) X.1 X.2.1 dX0_tries_96 hl (by decide) rfl (fun ls hl => ?_)
                  refine rn_iinc (lv' := [(5, .int (nI (k + 1))), (4, .int (nI 1)), (0, .ref n), (1, .int v), (2, .int x), (3, .int (nI p_))]) X.1 X.2.1 dX0_tries_98 hl (k := 5) rfl (by decide) rfl (fun ls hl => ?_)
                  refine lv_goto (tgt := 19) X.1 X.2.1 dX0_tries_101 (by decide) ?_
                  exact ih19 _ (by omega) true (k + 1) rfl hp6 (by omega) (by rw [rv_may, ← hso, c_33]; first | (rw [decide_eq_true c_49]; rfl) | (rw [decide_eq_true c_88, Bool.or_true]; rfl) | (rw [decide_eq_false c_88, decide_eq_false (fun z => z c_49)]; rfl)) ls (lv_sub hl [2, 3, 4, 5, 1, 0] rfl)
      refine lv_iload_n X.1 X.2.1 dX0_tries_4 rfl (lv_at hl 3 rfl) ?_
      refine lv_aload_n X.1 X.2.1 dX0_tries_5 rfl (lv_at hl 0 rfl) ?_
      refine xb_get (C := RX0) (T := TX0) (v := .ref (n + 94)) X in_X0 (ci := 0) rfl hP (j := 0) (by decide) (xe_x0 ..) 12 (by decide) q263 rfl rfl dX0_tries_6 ?_
      refine xb_alen X hP (j := 94) (by decide) (t := 1) (n := 36) rfl rfl dX0_tries_9 ?_
      refine rn_icmp_ge (tgt := 131) X.1 X.2.1 (by omega) (by omega) dX0_tries_10 (by decide) (fun c_10 => ?_) (fun c_10 => ?_)
      · refine lv_iload_n X.1 X.2.1 dX0_tries_131 rfl (lv_at hl 2 rfl) ?_
        exact x_ri ξ1 X hr hlk hS dX0_tries_132 (by obtain rfl : p_ = 36 := (by omega); exact ⟨hx_, hq, hpr⟩) hP
      · refine lv_iconst (v := nI 1) X.1 X.2.1 dX0_tries_13 rfl ?_
        refine lv_istore (lv' := [(4, .int (nI 1)), (0, .ref n), (1, .int v), (2, .int x), (3, .int (nI p_))]) X.1 X.2.1 dX0_tries_14 hl (by decide) rfl (fun ls hl => ?_)
        refine lv_iconst (v := nI 0) X.1 X.2.1 dX0_tries_16 rfl ?_
        refine lv_istore (lv' := [(5, .int (nI 0)), (4, .int (nI 1)), (0, .ref n), (1, .int v), (2, .int x), (3, .int (nI p_))]) X.1 X.2.1 dX0_tries_17 hl (by decide) rfl (fun ls hl => ?_)
        exact K19 _ true 0 rfl c_10 (by omega) rfl ls (lv_sub hl [2, 3, 4, 5, 1, 0] rfl)
  refine lv_iconst (v := nI 0) X.1 X.2.1 dX0_tries_0 rfl ?_
  refine lv_istore_n (lv' := [(2, .int (nI 0)), (0, .ref n), (1, .int v)]) X.1 X.2.1 dX0_tries_1 rfl hl (by decide) rfl (fun ls hl => ?_)
  refine lv_iconst (v := nI 0) X.1 X.2.1 dX0_tries_2 rfl ?_
  refine lv_istore_n (lv' := [(3, .int (nI 0)), (2, .int (nI 0)), (0, .ref n), (1, .int v)]) X.1 X.2.1 dX0_tries_3 rfl hl (by decide) rfl (fun ls hl => ?_)
  exact K4 _ (nI 0) 0 ξ _ _ rfl (by omega) (fun _ _ => rfl) (fun q h => absurd h (by omega)) rfl hP hS ls (lv_sub hl [2, 3, 1, 0] rfl)
theorem x_X0_is (l : Launch) (dC : Nat → ClassId) (dI : Nat → Nat → Nat) (dA : Nat → ClassId) (n c : Nat) (σ : mdT) (ab be : Int64) (t_ : Nat) (ad : Nat → Nat) (v : Int32) (w : Int32) : Met l yX0_is (ws_ yX0_is cX0_is 6 (some .int)) { frames := 5, cells := 0, slots := 0, locals := 300 } (xPz dC dI dA (xZa n t_ ad) (fun H => RX dC dI dA c n σ ab be H ∧ (alV dC dI n ad H)) [.ref n, .int v, .int w]) (xQi (S := Unit) (fun r_ _ => r_ = (sp_is σ v w).1) (fun _ => (RX dC dI dA c n (sp_is σ v w).2 ab be)) (bkA n 96)) 0 0 (bkA n 96) := by
  refine x_inZ (by decide) rfl (Nat.le_of_ble_eq_true rfl) (lv := [(0, .ref n), (1, .int v), (2, .int w)]) rfl ?_
  intro p e s m below meth c_ X hN hnm hr hlk hP hZs ls hl
  obtain ⟨hP, hAl⟩ := hP
  obtain ⟨T, ξ, V, V2, im, many, rent, rd, un, hs, ev, ty, hP, hR, ho, hO⟩ := hP
  have ho0 := ho
  have hR0 := hR
  have hV := hO.1
  have hT := hO.tb
  have hm := hR.m6
  have hr6 := hR.r6
  have hd6 := hR.d6
  have hu8 := hR.u8
  have hs12 := hR.h12
  have hS : va_S (bkA n 96) s.heap s.heap [] := va_S.rf
  have K35 : ∀ (k35_ : Nat) (x : Int32) (i : Nat) (ξ1 : mdT) (c_5 : rv_in v 0 (σ 0 0 - nI 1).toInt = true) (c_15 : rv_inI w 0 1 = true) (H : Heap) (locs : List Loc), 36 - i = k35_ → (i ≤ 36) → (∀ i, i ≠ 94 → ξ1 i = ξ i) → (∀ q, q < 36 → ξ1 94 q = rb_i (rv_pair (σ 0) rd v q)) → (x = rv_isset (rv_pair (σ 0) rd v) i) → bkP dC dI n 96 (xE dA n ξ1 V V2 im ab be) H → va_S (bkA n 96) s.heap H locs → ∀ ls, lv_has ls 6 [(0, .ref n), (1, .int v), (2, .int w), (3, .int (rv_iscnt (rv_pair (σ 0) rd v) 36)), (4, .int x), (5, .int (nI i))] → W p l e { frames := 5, cells := 0, slots := 0, locals := 300 } s m [.ref n, .int v, .int w].toArray below meth c_ H locs 0 0 (MQ below (xQi (S := Unit) (fun r_ _ => r_ = (sp_is σ v w).1) (fun _ => (RX dC dI dA c n (sp_is σ v w).2 ab be)) (bkA n 96)) [.ref n, .int v, .int w].toArray s 0 0 (bkA n 96)) (F0 m 35 ls []) := by
    intro k35_
    induction k35_ using Nat.strongRecOn with
    | _ k35_ ih35 =>
      intro x i ξ1 c_5 c_15 H locs hm35_ hi hq hp hx_ hP hS ls hl
      have hR := hR.cg (S' := fun i_ => ξ1 (1 + i_)) (fun i hi => hq (1 + i) (by omega)) (fun _ _ => rfl)
      have ho := ho.cg (ξ' := ξ1) (congrFun (hq 0 (by decide)) 0) (hq 88 (by decide)) (hq 89 (by decide)) rfl rfl rfl
      refine lv_iload X.1 X.2.1 dX0_is_35 (lv_at hl 5 rfl) ?_
      refine lv_aload_n X.1 X.2.1 dX0_is_37 rfl (lv_at hl 0 rfl) ?_
      refine xb_get (C := RX0) (T := TX0) (v := .ref (n + 94)) X in_X0 (ci := 0) rfl hP (j := 0) (by decide) (xe_x0 ..) 12 (by decide) q263 rfl rfl dX0_is_38 ?_
      refine xb_alen X hP (j := 94) (by decide) (t := 1) (n := 36) rfl rfl dX0_is_41 ?_
      refine rn_icmp_ge (tgt := 77) X.1 X.2.1 (by omega) (by omega) dX0_is_42 (by decide) (fun c_42 => ?_) (fun c_42 => ?_)
      · refine lv_iload_n X.1 X.2.1 dX0_is_77 rfl (lv_at hl 2 rfl) ?_
        refine lv_if_ne (tgt := 86) X.1 X.2.1 dX0_is_78 (by decide) (fun (c_78 : ¬ w = 0) => ?_) (fun (c_78 : w = 0) => ?_)
        · refine lv_iload_n X.1 X.2.1 dX0_is_86 rfl (lv_at hl 3 rfl) ?_
          exact x_pi (by obtain rfl : i = 36 := (by omega); rw [sp_is, if_pos c_5, if_pos c_15, hR0.f5, rv_cln (by omega), ← hx_]; first | rw [if_pos c_78] | rw [if_neg c_78]) X hr hlk hS dX0_is_87 (RX.o hP hR ho (hO.at hS) (fun i hi => hq (44 + i) (by omega)) rfl rfl rfl)
        · refine lv_iload X.1 X.2.1 dX0_is_81 (lv_at hl 4 rfl) ?_
          refine lv_goto (tgt := 87) X.1 X.2.1 dX0_is_83 (by decide) ?_
          exact x_pi (by obtain rfl : i = 36 := (by omega); rw [sp_is, if_pos c_5, if_pos c_15, hR0.f5, rv_cln (by omega), ← hx_]; first | rw [if_pos c_78] | rw [if_neg c_78]) X hr hlk hS dX0_is_87 (RX.o hP hR ho (hO.at hS) (fun i hi => hq (44 + i) (by omega)) rfl rfl rfl)
      · refine lv_iload X.1 X.2.1 dX0_is_45 (lv_at hl 4 rfl) ?_
        refine lv_aload_n X.1 X.2.1 dX0_is_47 rfl (lv_at hl 0 rfl) ?_
        refine xb_get (C := RX0) (T := TX0) (v := .ref (n + 94)) X in_X0 (ci := 0) rfl hP (j := 0) (by decide) (xe_x0 ..) 12 (by decide) q263 rfl rfl dX0_is_48 ?_
        refine lv_iload X.1 X.2.1 dX0_is_51 (lv_at hl 5 rfl) ?_
        refine xb_zald X hP (j := 94) (by decide) (n := 36) (f := ξ1 94) rfl (by omega) (by decide) dX0_is_53 ?_
        refine rn_co (y := rb_i (rv_pair (σ 0) rd v i)) (hp i (by omega)) ?_
        refine rn_zt (tgt := 67) X.1 X.2.1 dX0_is_54 (by decide) (fun c_54 => ?_) (fun c_54 => ?_)
        · refine lv_iconst (v := nI 0) X.1 X.2.1 dX0_is_67 rfl ?_
          refine lv_ior X.1 X.2.1 dX0_is_68 ?_
          refine lv_istore (lv' := [(4, .int (x ||| 0)), (0, .ref n), (1, .int v), (2, .int w), (3, .int (rv_iscnt (rv_pair (σ 0) rd v) 36)), (5, .int (nI i))]) X.1 X.2.1 dX0_is_69 hl (by decide) rfl (fun ls hl => ?_)
          refine rn_iinc (lv' := [(5, .int (nI (i + 1))), (4, .int (x ||| 0)), (0, .ref n), (1, .int v), (2, .int w), (3, .int (rv_iscnt (rv_pair (σ 0) rd v) 36))]) X.1 X.2.1 dX0_is_71 hl (k := 5) rfl (by decide) rfl (fun ls hl => ?_)
          refine lv_goto (tgt := 35) X.1 X.2.1 dX0_is_74 (by decide) ?_
          exact ih35 _ (by omega) (x ||| 0) (i + 1) ξ1 c_5 c_15 _ _ rfl (by omega) hq hp (by rw [rv_isset, ← hx_]; first | (rw [if_pos c_54]; done) | (rw [if_neg (rv_nf c_54)]; done)) hP hS ls (lv_sub hl [2, 3, 4, 5, 1, 0] rfl)
        · refine lv_iconst (v := nI 1) X.1 X.2.1 dX0_is_57 rfl ?_
          refine lv_iload X.1 X.2.1 dX0_is_58 (lv_at hl 5 rfl) ?_
          refine lv_bipush (v := nI 6) X.1 X.2.1 dX0_is_60 rfl ?_
          refine rn_idiv X.1 X.2.1 (by omega) (by decide) (by decide) dX0_is_62 ?_
          refine lv_ishl X.1 X.2.1 dX0_is_63 ?_
          refine lv_goto (tgt := 68) X.1 X.2.1 dX0_is_64 (by decide) ?_
          refine lv_ior X.1 X.2.1 dX0_is_68 ?_
          refine lv_istore (lv' := [(4, .int (x ||| (1 <<< ((nI (i / 6)) &&& 31)))), (0, .ref n), (1, .int v), (2, .int w), (3, .int (rv_iscnt (rv_pair (σ 0) rd v) 36)), (5, .int (nI i))]) X.1 X.2.1 dX0_is_69 hl (by decide) rfl (fun ls hl => ?_)
          refine rn_iinc (lv' := [(5, .int (nI (i + 1))), (4, .int (x ||| (1 <<< ((nI (i / 6)) &&& 31)))), (0, .ref n), (1, .int v), (2, .int w), (3, .int (rv_iscnt (rv_pair (σ 0) rd v) 36))]) X.1 X.2.1 dX0_is_71 hl (k := 5) rfl (by decide) rfl (fun ls hl => ?_)
          refine lv_goto (tgt := 35) X.1 X.2.1 dX0_is_74 (by decide) ?_
          exact ih35 _ (by omega) (x ||| (1 <<< ((nI (i / 6)) &&& 31))) (i + 1) ξ1 c_5 c_15 _ _ rfl (by omega) hq hp (by rw [rv_isset, ← hx_]; first | (rw [if_pos c_54]; done) | (rw [if_neg (rv_nf c_54)]; done)) hP hS ls (lv_sub hl [2, 3, 4, 5, 1, 0] rfl)
  refine lv_aload_n X.1 X.2.1 dX0_is_0 rfl (lv_at hl 0 rfl) ?_
  refine lv_iload_n X.1 X.2.1 dX0_is_1 rfl (lv_at hl 1 rfl) ?_
  refine x_cSe (x_runV X hN hP (As := [.int v]) (rest := []) (x_X0_isView l dC dI dA n ξ V V2 im ab be v c many rent rd un hs ev (σ 0) hR) xkv_X0_132 (x_recv (ci := 0) X.2.2.2.2.2 hP (j := 0) (by decide) (xe_x0 ..) rfl) rfl rfl ⟨Nat.le_of_ble_eq_true rfl, Nat.le_of_ble_eq_true rfl⟩ hl.1 (Nat.le_of_ble_eq_true rfl) dX0_is_2 ⟨Nat.le_of_ble_eq_true rfl, Nat.le_of_ble_eq_true rfl⟩) ?_
  refine rn_zt (tgt := 18) X.1 X.2.1 dX0_is_5 (by decide) (fun c_5 => ?_) (fun c_5 => ?_)
  · refine lv_aload_n X.1 X.2.1 dX0_is_18 rfl (lv_at hl 0 rfl) ?_
    refine x_cWi (x_runV X hN hP (As := []) (rest := []) (x_X0_bad l dC dI dA n ξ V V2 im ab be) xkv_X0_110 (x_recv (ci := 0) X.2.2.2.2.2 hP (j := 0) (by decide) (xe_x0 ..) rfl) rfl rfl ⟨Nat.le_of_ble_eq_true rfl, Nat.le_of_ble_eq_true rfl⟩ hl.1 (Nat.le_of_ble_eq_true rfl) dX0_is_19 ⟨Nat.le_of_ble_eq_true rfl, Nat.le_of_ble_eq_true rfl⟩) hS (fun _ h => h) (fun _ h => h) (fun r19 _ H locs hr1 hP1 hz1 hk1 hS => ?_)
    subst hr1
    have hP := hP1
    have hR := hR.cg (S' := fun i_ => (mdS ξ 89 0 (ξ 89 0 + nI 1)) (1 + i_)) (fun i hi => by first | rfl | simp (disch := omega) only [mdS_row, mdI_out, upRn] | (simp (disch := omega) only [mdS_row, mdI_out, upRn, *])) (fun _ _ => rfl)
    have ho := oR.b (k := 0) ho (by decide)
    exact x_pi (by first | (rw [sp_is, if_neg (rv_nf c_5)]; done) | (rw [sp_is, if_neg (rv_nf c_5)]; rfl) | (rw [sp_is, if_pos c_5, if_neg (rv_nf c_15)]; done) | (rw [sp_is, if_pos c_5, if_neg (rv_nf c_15)]; rfl)) X hr hlk hS dX0_is_22 (RX.o hP hR ho (hO.at hS) (fun i hi => by first | rfl | simp (disch := omega) only [mdS_row, mdI_out, upRn] | (simp (disch := omega) only [mdS_row, mdI_out, upRn, *])) rfl rfl rfl)
  · refine lv_iload_n X.1 X.2.1 dX0_is_8 rfl (lv_at hl 2 rfl) ?_
    refine lv_i2l X.1 X.2.1 dX0_is_9 rfl ?_
    refine lv_lconst (v := 0) X.1 X.2.1 dX0_is_10 rfl ?_
    refine lv_lconst (v := 1) X.1 X.2.1 dX0_is_11 rfl ?_
    refine x_cSe (x_runSp X (As := [.long (Int32.toInt64 w), .long 0, .long 1]) (rest := []) (x_X0_in l (Int32.toInt64 w) 0 1) xks_X0_89 rfl rfl ⟨Nat.le_of_ble_eq_true rfl, Nat.le_of_ble_eq_true rfl⟩ hl.1 (Nat.le_of_ble_eq_true rfl) dX0_is_12 ⟨Nat.le_of_ble_eq_true rfl, Nat.le_of_ble_eq_true rfl⟩) ?_
    refine rn_zf (tgt := 23) X.1 X.2.1 dX0_is_15 (by decide) (fun c_15 => ?_) (fun c_15 => ?_)
    · refine lv_aload_n X.1 X.2.1 dX0_is_23 rfl (lv_at hl 0 rfl) ?_
      refine lv_iload_n X.1 X.2.1 dX0_is_24 rfl (lv_at hl 1 rfl) ?_
      refine x_cWi (x_runVZ (hz := xZa_ok n t_ ad) X hN ⟨hP, (hAl.at hS)⟩ (xZ_at hZs hS) (As := [.int v]) (rest := []) (x_X0_tries l dC dI dA n ξ V V2 im ab be t_ ad v c many rent rd un hs ev (σ 0) hR) xkv_X0_299 (x_recv (ci := 0) X.2.2.2.2.2 hP (j := 0) (by decide) (xe_x0 ..) rfl) rfl rfl ⟨Nat.le_of_ble_eq_true rfl, Nat.le_of_ble_eq_true rfl⟩ hl.1 (Nat.le_of_ble_eq_true rfl) dX0_is_25 ⟨Nat.le_of_ble_eq_true rfl, Nat.le_of_ble_eq_true rfl⟩) hS (fun _ h => h) (fun _ h => h) (fun r25 u25 H locs hu25 hP1 hz1 hk1 hS => ?_)
      have hP := hP1
      obtain ⟨er25, hu25⟩ := hu25
      refine rn_co er25 ?_
      have hR := hR.cg (fun i hi => hu25.1 (1 + i) (by omega) ) (fun _ _ => rfl)
      have ho := ho.cg (congrFun (hu25.1 0 (by decide)) 0) (hu25.1 88 (by decide)) (hu25.1 89 (by decide)) rfl rfl rfl
      refine lv_istore_n (lv' := [(3, .int (rv_iscnt (rv_pair (σ 0) rd v) 36)), (0, .ref n), (1, .int v), (2, .int w)]) X.1 X.2.1 dX0_is_28 rfl hl (by decide) rfl (fun ls hl => ?_)
      refine lv_iconst (v := nI 0) X.1 X.2.1 dX0_is_29 rfl ?_
      refine lv_istore (lv' := [(4, .int (nI 0)), (3, .int (rv_iscnt (rv_pair (σ 0) rd v) 36)), (0, .ref n), (1, .int v), (2, .int w)]) X.1 X.2.1 dX0_is_30 hl (by decide) rfl (fun ls hl => ?_)
      refine lv_iconst (v := nI 0) X.1 X.2.1 dX0_is_32 rfl ?_
      refine lv_istore (lv' := [(5, .int (nI 0)), (4, .int (nI 0)), (3, .int (rv_iscnt (rv_pair (σ 0) rd v) 36)), (0, .ref n), (1, .int v), (2, .int w)]) X.1 X.2.1 dX0_is_33 hl (by decide) rfl (fun ls hl => ?_)
      exact K35 _ (nI 0) 0 u25 c_5 c_15 _ _ rfl (by omega) hu25.1 hu25.2 rfl hP hS ls (lv_sub hl [3, 4, 5, 2, 1, 0] rfl)
    · refine lv_aload_n X.1 X.2.1 dX0_is_18 rfl (lv_at hl 0 rfl) ?_
      refine x_cWi (x_runV X hN hP (As := []) (rest := []) (x_X0_bad l dC dI dA n ξ V V2 im ab be) xkv_X0_110 (x_recv (ci := 0) X.2.2.2.2.2 hP (j := 0) (by decide) (xe_x0 ..) rfl) rfl rfl ⟨Nat.le_of_ble_eq_true rfl, Nat.le_of_ble_eq_true rfl⟩ hl.1 (Nat.le_of_ble_eq_true rfl) dX0_is_19 ⟨Nat.le_of_ble_eq_true rfl, Nat.le_of_ble_eq_true rfl⟩) hS (fun _ h => h) (fun _ h => h) (fun r19 _ H locs hr1 hP1 hz1 hk1 hS => ?_)
      subst hr1
      have hP := hP1
      have hR := hR.cg (S' := fun i_ => (mdS ξ 89 0 (ξ 89 0 + nI 1)) (1 + i_)) (fun i hi => by first | rfl | simp (disch := omega) only [mdS_row, mdI_out, upRn] | (simp (disch := omega) only [mdS_row, mdI_out, upRn, *])) (fun _ _ => rfl)
      have ho := oR.b (k := 0) ho (by decide)
      exact x_pi (by first | (rw [sp_is, if_neg (rv_nf c_5)]; done) | (rw [sp_is, if_neg (rv_nf c_5)]; rfl) | (rw [sp_is, if_pos c_5, if_neg (rv_nf c_15)]; done) | (rw [sp_is, if_pos c_5, if_neg (rv_nf c_15)]; rfl)) X hr hlk hS dX0_is_22 (RX.o hP hR ho (hO.at hS) (fun i hi => by first | rfl | simp (disch := omega) only [mdS_row, mdI_out, upRn] | (simp (disch := omega) only [mdS_row, mdI_out, upRn, *])) rfl rfl rfl)
