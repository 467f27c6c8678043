set_option maxRecDepth 100000
/-! the component: a shop, renters, things, readings, undo -/
theorem xkv_X0_78 : xKV RX0 yX1_begins cX1_begins 1 none 78 0 := ⟨q243, q244, q245, q62, q246, by decide +kernel⟩
theorem xks_X0_125 : xKS RX0 yX0_isOne cX0_isOne 3 (some .boolean) 125 3 := ⟨q404, q405, q61, q406, by decide +kernel⟩
theorem xkv_X0_129 : xKV RX0 yX1_comes cX1_comes 4 none 129 3 := ⟨q409, q410, q411, q62, q412, by decide +kernel⟩
theorem xkv_X0_218 : xKV RX0 yX2_takes cX2_takes 2 none 218 1 := ⟨q671, q596, q597, q63, q598, by decide +kernel⟩
theorem xkv_X0_189 : xKV RX0 yX0_no cX0_no 1 (some .int) 189 0 := ⟨q648, q650, qs13, q61, q651, by decide +kernel⟩
theorem xks_X0_106 : xKS RX0 yX0_isWeather cX0_isWeather 1 (some .boolean) 106 1 := ⟨q309, q310, q61, q311, by decide +kernel⟩
theorem sh_thing {c many rent rd un hs ev : Nat} {f : Nat → Int32} {S : mdT} {x : Int32} {v : Nat} (h : shR c many rent rd un hs ev f S) (hv : v < many) : shR c many rent rd un hs ev (upd f (7 + 6 * v + 5) x) (mdS S 2 v x) := by
  have hm6 := h.m6
  have hr6 := h.r6
  have hs12 := h.h12
  have hd6 := h.d6
  have ek : ∀ k, k ≠ 7 + 6 * v + 5 → upd f (7 + 6 * v + 5) x k = f k := fun k hk => by unfold upd; rw [if_neg hk]
  have e1 : upd f (7 + 6 * v + 5) x (7 + 6 * v + 5) = x := by unfold upd; rw [if_pos rfl]
  have R : ∀ i, i ≠ 2 → mdS S 2 v x i = S i := fun i hi => mdS_row _ _ _ hi
  have R1 : ∀ k, mdS S 2 v x 2 k = if k = v then x else S 2 k := fun k => by rw [mdS_at]; by_cases e : k = v <;> simp [e]
  refine ⟨h.1, ⟨by rw [ek _ (by omega)]; exact h.f0, by rw [ek _ (by omega)]; exact h.f1, by rw [ek _ (by omega)]; exact h.f5, by rw [ek _ (by omega)]; exact h.f6⟩, by rw [R 0 (by omega)]; exact h.2.2.1, fun w hw => ?_, fun r hr => ?_, fun k hk => ?_, ⟨h.h12, h.evc, (ek 4 (by omega)).trans h.f4, (ek 2 (by omega)).trans h.f2, ?_, ?_, ?_, fun r hr => ?_, fun w hw => ?_, fun k hk => ?_, fun k hk => ?_⟩, fun k hk => ?_⟩
  · rw [R1]; by_cases e : w = v; (subst e; rw [if_pos rfl, e1]); (rw [if_neg e, ek _ (by omega)]; exact h.thg hw)
  · rw [R 3 (by omega), R 4 (by omega), ek _ (by omega), ek _ (by omega)]; exact ⟨h.wal hr, h.wan hr⟩
  · rw [R 5 (by omega), ek _ (by omega)]; exact h.rea hk
  · exact (congrFun (R 6 (by omega)) 0).trans (h.tak.trans (ek 3 (by omega)).symm)
  · exact (congrFun (R 6 (by omega)) 1).trans h.eve
  · exact (congrFun (R 6 (by omega)) 2).trans h.tol
  · rw [rv_snap_p _ (by omega)]
    show mdS S 2 v x 7 r = _; rw [R 7 (by omega), ek _ (by omega)]; exact h.pur hr
  · rw [rv_snap_l _ (by omega)]
    show mdS S 2 v x 8 w = _; rw [R 8 (by omega), ek _ (by omega)]; exact h.lt hw
  · rw [rv_snap_h]
    show mdS S 2 v x 9 k = _
    rw [R 9 (by omega), ek _ (by omega)]; exact h.his hk
  · rw [show 15 + 3 * k + 2 = 15 + (3 * k + 2) by omega, rv_snap_h, ek _ (by omega)]; exact h.hn hk
  · obtain ⟨a, b, q⟩ := h.was hk
    exact ⟨a, b, q.cg (fun r hr => R _ (by omega)) (fun j hj => ek _ (by omega)) h.m6 h.r6⟩
theorem sh_let {c many rent rd un hs ev : Nat} {f : Nat → Int32} {S : mdT} {x : Int32} {v : Nat} (h : shR c many rent rd un hs ev f S) (hv : v < many) : shR c many rent rd un hs ev (upd f (7 + 6 * v + 4) x) (mdS S 8 v x) := by
  have hm6 := h.m6
  have hr6 := h.r6
  have hs12 := h.h12
  have hd6 := h.d6
  have ek : ∀ k, k ≠ 7 + 6 * v + 4 → upd f (7 + 6 * v + 4) x k = f k := fun k hk => by unfold upd; rw [if_neg hk]
  have e1 : upd f (7 + 6 * v + 4) x (7 + 6 * v + 4) = x := by unfold upd; rw [if_pos rfl]
  have R : ∀ i, i ≠ 8 → mdS S 8 v x i = S i := fun i hi => mdS_row _ _ _ hi
  have R1 : ∀ k, mdS S 8 v x 8 k = if k = v then x else S 8 k := fun k => by rw [mdS_at]; by_cases e : k = v <;> simp [e]
  refine ⟨h.1, ⟨by rw [ek _ (by omega)]; exact h.f0, by rw [ek _ (by omega)]; exact h.f1, by rw [ek _ (by omega)]; exact h.f5, by rw [ek _ (by omega)]; exact h.f6⟩, by rw [R 0 (by omega)]; exact h.2.2.1, fun w hw => ?_, fun r hr => ?_, fun k hk => ?_, ⟨h.h12, h.evc, (ek 4 (by omega)).trans h.f4, (ek 2 (by omega)).trans h.f2, ?_, ?_, ?_, fun r hr => ?_, fun w hw => ?_, fun k hk => ?_, fun k hk => ?_⟩, fun k hk => ?_⟩
  · rw [R 2 (by omega), ek _ (by omega)]; exact h.thg hw
  · rw [R 3 (by omega), R 4 (by omega), ek _ (by omega), ek _ (by omega)]; exact ⟨h.wal hr, h.wan hr⟩
  · rw [R 5 (by omega), ek _ (by omega)]; exact h.rea hk
  · exact (congrFun (R 6 (by omega)) 0).trans (h.tak.trans (ek 3 (by omega)).symm)
  · exact (congrFun (R 6 (by omega)) 1).trans h.eve
  · exact (congrFun (R 6 (by omega)) 2).trans h.tol
  · rw [rv_snap_p _ (by omega)]
    show mdS S 8 v x 7 r = _; rw [R 7 (by omega), ek _ (by omega)]; exact h.pur hr
  · rw [rv_snap_l _ (by omega)]
    show mdS S 8 v x 8 w = _; rw [R1]; by_cases e : w = v; (subst e; rw [if_pos rfl, e1]); (rw [if_neg e, ek _ (by omega)]; exact h.lt hw)
  · rw [rv_snap_h]
    show mdS S 8 v x 9 k = _
    rw [R 9 (by omega), ek _ (by omega)]; exact h.his hk
  · rw [show 15 + 3 * k + 2 = 15 + (3 * k + 2) by omega, rv_snap_h, ek _ (by omega)]; exact h.hn hk
  · obtain ⟨a, b, q⟩ := h.was hk
    exact ⟨a, b, q.cg (fun r hr => R _ (by omega)) (fun j hj => ek _ (by omega)) h.m6 h.r6⟩
theorem sh_pur {c many rent rd un hs ev : Nat} {f : Nat → Int32} {S : mdT} {x : Int32} {v : Nat} (h : shR c many rent rd un hs ev f S) (hv : v < rent) : shR c many rent rd un hs ev (upd f (43 + 3 * v + 1) x) (mdS S 7 v x) := by
  have hm6 := h.m6
  have hr6 := h.r6
  have hs12 := h.h12
  have hd6 := h.d6
  have ek : ∀ k, k ≠ 43 + 3 * v + 1 → upd f (43 + 3 * v + 1) x k = f k := fun k hk => by unfold upd; rw [if_neg hk]
  have e1 : upd f (43 + 3 * v + 1) x (43 + 3 * v + 1) = x := by unfold upd; rw [if_pos rfl]
  have R : ∀ i, i ≠ 7 → mdS S 7 v x i = S i := fun i hi => mdS_row _ _ _ hi
  have R1 : ∀ k, mdS S 7 v x 7 k = if k = v then x else S 7 k := fun k => by rw [mdS_at]; by_cases e : k = v <;> simp [e]
  refine ⟨h.1, ⟨by rw [ek _ (by omega)]; exact h.f0, by rw [ek _ (by omega)]; exact h.f1, by rw [ek _ (by omega)]; exact h.f5, by rw [ek _ (by omega)]; exact h.f6⟩, by rw [R 0 (by omega)]; exact h.2.2.1, fun w hw => ?_, fun r hr => ?_, fun k hk => ?_, ⟨h.h12, h.evc, (ek 4 (by omega)).trans h.f4, (ek 2 (by omega)).trans h.f2, ?_, ?_, ?_, fun r hr => ?_, fun w hw => ?_, fun k hk => ?_, fun k hk => ?_⟩, fun k hk => ?_⟩
  · rw [R 2 (by omega), ek _ (by omega)]; exact h.thg hw
  · rw [R 3 (by omega), R 4 (by omega), ek _ (by omega), ek _ (by omega)]; exact ⟨h.wal hr, h.wan hr⟩
  · rw [R 5 (by omega), ek _ (by omega)]; exact h.rea hk
  · exact (congrFun (R 6 (by omega)) 0).trans (h.tak.trans (ek 3 (by omega)).symm)
  · exact (congrFun (R 6 (by omega)) 1).trans h.eve
  · exact (congrFun (R 6 (by omega)) 2).trans h.tol
  · rw [rv_snap_p _ (by omega)]
    show mdS S 7 v x 7 r = _; rw [R1]; by_cases e : r = v; (subst e; rw [if_pos rfl, e1]); (rw [if_neg e, ek _ (by omega)]; exact h.pur hr)
  · rw [rv_snap_l _ (by omega)]
    show mdS S 7 v x 8 w = _; rw [R 8 (by omega), ek _ (by omega)]; exact h.lt hw
  · rw [rv_snap_h]
    show mdS S 7 v x 9 k = _
    rw [R 9 (by omega), ek _ (by omega)]; exact h.his hk
  · rw [show 15 + 3 * k + 2 = 15 + (3 * k + 2) by omega, rv_snap_h, ek _ (by omega)]; exact h.hn hk
  · obtain ⟨a, b, q⟩ := h.was hk
    exact ⟨a, b, q.cg (fun r hr => R _ (by omega)) (fun j hj => ek _ (by omega)) h.m6 h.r6⟩
theorem sh_tak {c many rent rd un hs ev : Nat} {f : Nat → Int32} {S : mdT} {x : Int32} (h : shR c many rent rd un hs ev f S) : shR c many rent rd un hs ev (upd f (3) x) (mdS S 6 0 x) := by
  have hm6 := h.m6
  have hr6 := h.r6
  have hs12 := h.h12
  have hd6 := h.d6
  have ek : ∀ k, k ≠ 3 → upd f (3) x k = f k := fun k hk => by unfold upd; rw [if_neg hk]
  have e1 : upd f (3) x (3) = x := by unfold upd; rw [if_pos rfl]
  have R : ∀ i, i ≠ 6 → mdS S 6 0 x i = S i := fun i hi => mdS_row _ _ _ hi
  have R1 : ∀ k, mdS S 6 0 x 6 k = if k = 0 then x else S 6 k := fun k => by rw [mdS_at]; by_cases e : k = 0 <;> simp [e]
  refine ⟨h.1, ⟨by rw [ek _ (by omega)]; exact h.f0, by rw [ek _ (by omega)]; exact h.f1, by rw [ek _ (by omega)]; exact h.f5, by rw [ek _ (by omega)]; exact h.f6⟩, by rw [R 0 (by omega)]; exact h.2.2.1, fun w hw => ?_, fun r hr => ?_, fun k hk => ?_, ⟨h.h12, h.evc, (ek 4 (by omega)).trans h.f4, (ek 2 (by omega)).trans h.f2, ?_, ?_, ?_, fun r hr => ?_, fun w hw => ?_, fun k hk => ?_, fun k hk => ?_⟩, fun k hk => ?_⟩
  · rw [R 2 (by omega), ek _ (by omega)]; exact h.thg hw
  · rw [R 3 (by omega), R 4 (by omega), ek _ (by omega), ek _ (by omega)]; exact ⟨h.wal hr, h.wan hr⟩
  · rw [R 5 (by omega), ek _ (by omega)]; exact h.rea hk
  · exact (mdS_eq _ _ _ _).trans e1.symm
  · exact (mdS_ne (by omega)).trans h.eve
  · exact (mdS_ne (by omega)).trans h.tol
  · rw [rv_snap_p _ (by omega)]
    show mdS S 6 0 x 7 r = _; rw [R 7 (by omega), ek _ (by omega)]; exact h.pur hr
  · rw [rv_snap_l _ (by omega)]
    show mdS S 6 0 x 8 w = _; rw [R 8 (by omega), ek _ (by omega)]; exact h.lt hw
  · rw [rv_snap_h]
    show mdS S 6 0 x 9 k = _
    rw [R 9 (by omega), ek _ (by omega)]; exact h.his hk
  · rw [show 15 + 3 * k + 2 = 15 + (3 * k + 2) by omega, rv_snap_h, ek _ (by omega)]; exact h.hn hk
  · obtain ⟨a, b, q⟩ := h.was hk
    exact ⟨a, b, q.cg (fun r hr => R _ (by omega)) (fun j hj => ek _ (by omega)) h.m6 h.r6⟩
def sp_shop (σ : mdT) : Int32 × mdT := (σ 0 0, md_begin σ 0 115)
theorem rv_snap_undo (f : Nat → Int32) (m : Nat) {j : Nat} (hj : j < 51) : rv_snap (rv_undo f m) j = f (115 + 51 * m + j) := by
  unfold rv_snap
  by_cases a1 : j < 6
  · rw [if_pos a1]
    unfold rv_undo
    rw [if_neg (by omega), if_neg (by omega), if_neg (by omega), if_neg (by omega), if_pos (by omega)]
    congr 1
    omega
  rw [if_neg a1]
  by_cases a2 : j < 12
  · rw [if_pos a2]
    unfold rv_undo
    rw [if_neg (by omega), if_neg (by omega), if_neg (by omega), if_neg (by omega), if_neg (by omega), if_pos (by omega)]
    congr 1
    omega
  rw [if_neg a2]
  by_cases a3 : j = 12
  · rw [if_pos a3, a3]; rfl
  rw [if_neg a3]
  by_cases a4 : j = 13
  · rw [if_pos a4, a4]; rfl
  rw [if_neg a4]
  by_cases a5 : j = 14
  · rw [if_pos a5, a5]; rfl
  rw [if_neg a5]
  unfold rv_undo
  rw [if_neg (by omega), if_neg (by omega), if_neg (by omega), if_neg (by omega), if_neg (by omega), if_neg (by omega), if_pos (by omega)]
  congr 1
  omega
theorem rv_undo_n (f : Nat → Int32) (m : Nat) {k : Nat} (h6 : k ≠ 6) (h2 : k ≠ 2) (h3 : k ≠ 3) (h4 : k ≠ 4) (hp : ¬ (43 ≤ k ∧ k < 61 ∧ (k - 43) % 3 = 1)) (hl : ¬ (7 ≤ k ∧ k < 43 ∧ (k - 7) % 6 = 4)) (hh : ¬ (61 ≤ k ∧ k < 97)) : rv_undo f m k = f k := by
  unfold rv_undo
  rw [if_neg h6, if_neg h2, if_neg h3, if_neg h4, if_neg hp, if_neg hl, if_neg hh]
theorem sh_undo {c many rent rd un hs ev m hs2 ev2 : Nat} {f : Nat → Int32} {S S' : mdT} (h : shR c many rent rd un hs ev f S) (hu : m < un) (hw : stR c many rent (fun r => S (11 + 4 * m + r)) (fun j => f (115 + 51 * m + j)) hs2 ev2) (h3 : S' 0 3 = nI m) (h0 : ∀ k, k ≠ 3 → S' 0 k = S 0 k) (hn : ∀ r, r < 4 → S' (6 + r) = S (11 + 4 * m + r)) (hi : ∀ i, i ≠ 0 → i < 6 ∨ 10 ≤ i → S' i = S i) : shR c many rent rd m hs2 ev2 (rv_undo f m) S' := by
  have hm6 := h.m6
  have hr6 := h.r6
  have hd6 := h.d6
  have hu8 := h.u8
  refine ⟨⟨h.m6, h.r6, h.d6, by omega⟩, ⟨by rw [rv_undo_n f m (by omega) (by omega) (by omega) (by omega) (by omega) (by omega) (by omega)]; exact h.f0, by rw [rv_undo_n f m (by omega) (by omega) (by omega) (by omega) (by omega) (by omega) (by omega)]; exact h.f1, by rw [rv_undo_n f m (by omega) (by omega) (by omega) (by omega) (by omega) (by omega) (by omega)]; exact h.f5, rfl⟩, ⟨by rw [h0 0 (by omega)]; exact h.nm, by rw [h0 1 (by omega)]; exact h.nr, by rw [h0 2 (by omega)]; exact h.nd, h3⟩, fun v hv => ?_, fun r hr => ?_, fun k hk => ?_, ?_, fun k hk => ?_⟩
  · rw [hi 2 (by omega) (by omega), rv_undo_n f m (by omega) (by omega) (by omega) (by omega) (by omega) (by omega) (by omega)]; exact h.thg hv
  · rw [hi 3 (by omega) (by omega), hi 4 (by omega) (by omega), rv_undo_n f m (by omega) (by omega) (by omega) (by omega) (by omega) (by omega) (by omega), rv_undo_n f m (by omega) (by omega) (by omega) (by omega) (by omega) (by omega) (by omega)]; exact ⟨h.wal hr, h.wan hr⟩
  · rw [hi 5 (by omega) (by omega), rv_undo_n f m (by omega) (by omega) (by omega) (by omega) (by omega) (by omega) (by omega)]; exact h.rea hk
  · exact hw.cg (fun r hr => hn r hr) (fun j hj => rv_snap_undo f m hj) h.m6 h.r6
  · obtain ⟨x, y, q⟩ := h.was (k := k) (by omega)
    exact ⟨x, y, q.cg (fun r hr => hi _ (by omega) (by omega)) (fun j hj => rv_undo_n f m (by omega) (by omega) (by omega) (by omega) (by omega) (by omega) (by omega)) h.m6 h.r6⟩
theorem upd_ne4 {f : Nat → Int32} {K k : Nat} {x : Int32} (h : k ≠ K) : upd f K x k = f k := by unfold upd; rw [if_neg h]
theorem x_X0_shop (l : Launch) (dC : Nat → ClassId) (dI : Nat → Nat → Nat) (dA : Nat → ClassId) (n c : Nat) (σ : mdT) (ab be : Int64) : Met l yX0_shop (ws_ yX0_shop cX0_shop 2 (some .int)) { frames := 2, cells := 0, slots := 0, locals := 120 } (xPc dC dI dA (RX dC dI dA c n σ ab be) [.ref n]) (xQi (S := Unit) (fun r_ _ => r_ = (sp_shop σ).1) (fun _ => (RX dC dI dA c n (sp_shop σ).2 ab be)) (bkA n 96)) 0 0 (bkA n 96) := by
  refine x_in (by decide) rfl (Nat.le_of_ble_eq_true rfl) (lv := [(0, .ref n)]) rfl ?_
  intro p e s m below meth c_ X hN hnm hr hlk hP ls hl
  obtain ⟨T, ξ, V, V2, im, many, rent, rd, un, hs, ev, ty, hP, hR, ho, hO⟩ := hP
  have ho0 := ho
  have hR0 := hR
  have hV := hO.1
  have hT := hO.tb
  have hm := hR.m6
  have hr6 := hR.r6
  have hd6 := hR.d6
  have hu8 := hR.u8
  have hs12 := hR.h12
  have hS : va_S (bkA n 96) s.heap s.heap [] := va_S.rf
  refine lv_aload_n X.1 X.2.1 dX0_shop_0 rfl (lv_at hl 0 rfl) ?_
  refine xb_get (C := RX0) (T := TX0) (v := .ref (n + 1)) X in_X0 (ci := 0) rfl hP (j := 0) (by decide) (xe_x0 ..) 0 (by decide) q248 rfl rfl dX0_shop_1 ?_
  refine xb_getN (host := "RentedViews") (C := RX1) (T := TX1) (v := .int (ξ 1 0)) X in_X1 (ci := 1) rfl hP (j := 1) (by decide) (xe_x1 ..) 2 (by decide) (x_nest hN q145 rfl) rfl rfl dX0_shop_4 ?_
  refine rn_co (y := (σ 0) 0) (hR.nm.trans hR.f0.symm) ?_
  refine lv_istore_n (lv' := [(1, .int ((σ 0) 0)), (0, .ref n)]) X.1 X.2.1 dX0_shop_7 rfl hl (by decide) rfl (fun ls hl => ?_)
  refine lv_aload_n X.1 X.2.1 dX0_shop_8 rfl (lv_at hl 1 rfl) ?_
  refine xb_get (C := RX0) (T := TX0) (v := .ref (n + 1)) X in_X0 (ci := 0) rfl hP (j := 0) (by decide) (xe_x0 ..) 0 (by decide) q248 rfl rfl dX0_shop_9 ?_
  refine x_cWv (x_runV X hN (x_shop hP) (As := []) (rest := []) (x_X1_begins l dC dI dA (n + 1) (fun i_ => ξ (1 + i_)) V c (σ 0)) xkv_X0_78 (x_recv (ci := 1) X.2.2.2.2.2 hP (j := 1) (by decide) (xe_x1 ..) rfl) rfl rfl ⟨Nat.le_of_ble_eq_true rfl, Nat.le_of_ble_eq_true rfl⟩ hl.1 (Nat.le_of_ble_eq_true rfl) dX0_shop_12 ⟨Nat.le_of_ble_eq_true rfl, Nat.le_of_ble_eq_true rfl⟩) hS (fun q h => by unfold bkA at *; omega) (fun q h => by unfold bkA at *; omega) (fun u12 H locs hu12 hP1 hz1 hk1 hS => ?_)
  have hP := x_shopI hP hP1 (fun q h1 h2 => hk1 q (bk_sz hP h1) h2)
  have hR := xR_I (ξ := ξ) hu12
  refine lv_iload_n X.1 X.2.1 dX0_shop_15 rfl (lv_at hl 0 rfl) ?_
  exact x_pi rfl X hr hlk hS dX0_shop_16 (RX.mk (many := many) (ξ := ξ) (σ := σ) (σ' := md_begin σ 0 115) hP hR (ho.cg rfl rfl rfl rfl rfl rfl) (hO.at hS) (fun i hi => by first | rfl | simp (disch := omega) only [mdS_row, mdI_out, upRn] | (simp (disch := omega) only [mdS_row, mdI_out, upRn, *])) (Nat.zero_le _) (fun v hv => absurd hv (by omega)) rfl rfl)
theorem x_X0_renter (l : Launch) (dC : Nat → ClassId) (dI : Nat → Nat → Nat) (dA : Nat → ClassId) (n c : Nat) (σ : mdT) (ab be : Int64) (wl : Int32) (pu : Int32) (wa : Int32) : Met l yX0_renter (ws_ yX0_renter cX0_renter 4 (some .int)) { frames := 3, cells := 0, slots := 0, locals := 180 } (xPc dC dI dA (RX dC dI dA c n σ ab be) [.ref n, .int wl, .int pu, .int wa]) (xQi (S := Unit) (fun r_ _ => r_ = (sp_renter σ wl pu wa).1) (fun _ => (RX dC dI dA c n (sp_renter σ wl pu wa).2 ab be)) (bkA n 96)) 0 0 (bkA n 96) := by
  refine x_in (by decide) rfl (Nat.le_of_ble_eq_true rfl) (lv := [(0, .ref n), (1, .int wl), (2, .int pu), (3, .int wa)]) rfl ?_
  intro p e s m below meth c_ X hN hnm hr hlk hP ls hl
  obtain ⟨T, ξ, V, V2, im, many, rent, rd, un, hs, ev, ty, hP, hR, ho, hO⟩ := hP
  have ho0 := ho
  have hR0 := hR
  have hV := hO.1
  have hT := hO.tb
  have hm := hR.m6
  have hr6 := hR.r6
  have hd6 := hR.d6
  have hu8 := hR.u8
  have hs12 := hR.h12
  have hS : va_S (bkA n 96) s.heap s.heap [] := va_S.rf
  refine lv_iload_n X.1 X.2.1 dX0_renter_0 rfl (lv_at hl 1 rfl) ?_
  refine lv_iload_n X.1 X.2.1 dX0_renter_1 rfl (lv_at hl 2 rfl) ?_
  refine lv_iload_n X.1 X.2.1 dX0_renter_2 rfl (lv_at hl 3 rfl) ?_
  refine x_cSe (x_runSp X (As := [.int wl, .int pu, .int wa]) (rest := []) (x_X0_isOne l wl pu wa) xks_X0_125 rfl rfl ⟨Nat.le_of_ble_eq_true rfl, Nat.le_of_ble_eq_true rfl⟩ hl.1 (Nat.le_of_ble_eq_true rfl) dX0_renter_3 ⟨Nat.le_of_ble_eq_true rfl, Nat.le_of_ble_eq_true rfl⟩) ?_
  refine rn_zf (tgt := 14) X.1 X.2.1 dX0_renter_6 (by decide) (fun c_6 => ?_) (fun c_6 => ?_)
  · refine lv_aload_n X.1 X.2.1 dX0_renter_14 rfl (lv_at hl 0 rfl) ?_
    refine xb_get (C := RX0) (T := TX0) (v := .ref (n + 1)) X in_X0 (ci := 0) rfl hP (j := 0) (by decide) (xe_x0 ..) 0 (by decide) q248 rfl rfl dX0_renter_15 ?_
    refine xb_getN (host := "RentedViews") (C := RX1) (T := TX1) (v := .int (ξ 1 1)) X in_X1 (ci := 1) rfl hP (j := 1) (by decide) (xe_x1 ..) 5 (by decide) (x_nest hN q154 rfl) rfl rfl dX0_renter_18 ?_
    refine rn_co (y := nI rent) hR.nr ?_
    refine lv_bipush (v := nI 6) X.1 X.2.1 dX0_renter_21 rfl ?_
    refine rn_icmp_ne (tgt := 31) X.1 X.2.1 (by omega) (by omega) dX0_renter_23 (by decide) (fun c_23 => ?_) (fun c_23 => ?_)
    · refine lv_aload_n X.1 X.2.1 dX0_renter_31 rfl (lv_at hl 0 rfl) ?_
      refine xb_get (C := RX0) (T := TX0) (v := .ref (n + 1)) X in_X0 (ci := 0) rfl hP (j := 0) (by decide) (xe_x0 ..) 0 (by decide) q248 rfl rfl dX0_renter_32 ?_
      refine lv_iload_n X.1 X.2.1 dX0_renter_35 rfl (lv_at hl 1 rfl) ?_
      refine lv_iload_n X.1 X.2.1 dX0_renter_36 rfl (lv_at hl 2 rfl) ?_
      refine lv_iload_n X.1 X.2.1 dX0_renter_37 rfl (lv_at hl 3 rfl) ?_
      refine x_cWv (x_runV X hN (x_shop hP) (As := [.int wl, .int pu, .int wa]) (rest := []) (x_X1_comes l dC dI dA (n + 1) (fun i_ => ξ (1 + i_)) V wl pu wa c many rent rd un hs ev (σ 0) hR (by omega)) xkv_X0_129 (x_recv (ci := 1) X.2.2.2.2.2 hP (j := 1) (by decide) (xe_x1 ..) rfl) rfl rfl ⟨Nat.le_of_ble_eq_true rfl, Nat.le_of_ble_eq_true rfl⟩ hl.1 (Nat.le_of_ble_eq_true rfl) dX0_renter_38 ⟨Nat.le_of_ble_eq_true rfl, Nat.le_of_ble_eq_true rfl⟩) hS (fun q h => by unfold bkA at *; omega) (fun q h => by unfold bkA at *; omega) (fun u38 H locs hu38 hP1 hz1 hk1 hS => ?_)
      have hP := x_shopI hP hP1 (fun q h1 h2 => hk1 q (bk_sz hP h1) h2)
      have hR := xR_I (ξ := ξ) hu38
      refine lv_aload_n X.1 X.2.1 dX0_renter_41 rfl (lv_at hl 0 rfl) ?_
      refine xb_get (C := RX0) (T := TX0) (v := .ref (n + 1)) X in_X0 (ci := 0) rfl hP (j := 0) (by decide) (xe_x0 ..) 0 (by decide) q248 rfl rfl dX0_renter_42 ?_
      refine xb_getN (host := "RentedViews") (C := RX1) (T := TX1) (v := .int ((mdI ξ 1 43 u38) 1 1)) X in_X1 (ci := 1) rfl hP (j := 1) (by decide) (xe_x1 ..) 5 (by decide) (x_nest hN q154 rfl) rfl rfl dX0_renter_45 ?_
      refine rn_co (y := nI (rent + 1)) hR.nr ?_
      refine lv_iconst (v := nI 1) X.1 X.2.1 dX0_renter_48 rfl ?_
      refine rn_isub X.1 X.2.1 (by omega) dX0_renter_49 ?_
      exact x_pi (by rw [sp_renter, if_pos c_6, if_neg (by rw [hR0.f1]; exact fun z => c_23 ((nI_eq (by omega) (by omega)).mp (z.trans (show (6 : Int32) = nI 6 from rfl)))), hR0.f1, rv_cln (by omega), Nat.add_sub_cancel]) X hr hlk hS dX0_renter_50 (RX.mk (many := many) (ξ := ξ) (σ := σ) (σ' := mdS (md_layR σ 0 rent wl pu wa) 0 6 0) hP hR (ho.cg rfl rfl rfl rfl rfl rfl) (hO.at hS) (fun i hi => by first | rfl | simp (disch := omega) only [mdS_row, mdI_out, upRn] | (simp (disch := omega) only [mdS_row, mdI_out, upRn, *])) (Nat.le_refl _) (fun v hv j hj => by show upd (rv_lrf (σ 0) rent wl pu wa) 6 0 _ = _; unfold rv_lrf; simp only [upd]; repeat rw [if_neg (by omega)]) rfl rfl)
    · refine lv_aload_n X.1 X.2.1 dX0_renter_26 rfl (lv_at hl 0 rfl) ?_
      refine x_cWi (x_runV X hN hP (As := []) (rest := []) (x_X0_full l dC dI dA n ξ V V2 im ab be) xkv_X0_114 (x_recv (ci := 0) X.2.2.2.2.2 hP (j := 0) (by decide) (xe_x0 ..) rfl) rfl rfl ⟨Nat.le_of_ble_eq_true rfl, Nat.le_of_ble_eq_true rfl⟩ hl.1 (Nat.le_of_ble_eq_true rfl) dX0_renter_27 ⟨Nat.le_of_ble_eq_true rfl, Nat.le_of_ble_eq_true rfl⟩) hS (fun _ h => h) (fun _ h => h) (fun r27 _ H locs hr1 hP1 hz1 hk1 hS => ?_)
      subst hr1
      have hP := hP1
      have hR := hR.cg (S' := fun i_ => (mdS ξ 89 2 (ξ 89 2 + nI 1)) (1 + i_)) (fun i hi => by first | rfl | simp (disch := omega) only [mdS_row, mdI_out, upRn] | (simp (disch := omega) only [mdS_row, mdI_out, upRn, *])) (fun _ _ => rfl)
      have ho := oR.b (k := 2) ho (by decide)
      exact x_pi (by first | (rw [sp_renter, if_pos c_6, if_pos (by rw [hR0.f1, c_23]; rfl)]; done) | (rw [sp_renter, if_pos c_6, if_pos (by rw [hR0.f1, c_23]; rfl)]; rfl)) X hr hlk hS dX0_renter_30 (RX.o hP hR ho (hO.at hS) (fun i hi => by first | rfl | simp (disch := omega) only [mdS_row, mdI_out, upRn] | (simp (disch := omega) only [mdS_row, mdI_out, upRn, *])) rfl rfl rfl)
  · refine lv_aload_n X.1 X.2.1 dX0_renter_9 rfl (lv_at hl 0 rfl) ?_
    refine x_cWi (x_runV X hN hP (As := []) (rest := []) (x_X0_bad l dC dI dA n ξ V V2 im ab be) xkv_X0_110 (x_recv (ci := 0) X.2.2.2.2.2 hP (j := 0) (by decide) (xe_x0 ..) rfl) rfl rfl ⟨Nat.le_of_ble_eq_true rfl, Nat.le_of_ble_eq_true rfl⟩ hl.1 (Nat.le_of_ble_eq_true rfl) dX0_renter_10 ⟨Nat.le_of_ble_eq_true rfl, Nat.le_of_ble_eq_true rfl⟩) hS (fun _ h => h) (fun _ h => h) (fun r10 _ H locs hr1 hP1 hz1 hk1 hS => ?_)
    subst hr1
    have hP := hP1
    have hR := hR.cg (S' := fun i_ => (mdS ξ 89 0 (ξ 89 0 + nI 1)) (1 + i_)) (fun i hi => by first | rfl | simp (disch := omega) only [mdS_row, mdI_out, upRn] | (simp (disch := omega) only [mdS_row, mdI_out, upRn, *])) (fun _ _ => rfl)
    have ho := oR.b (k := 0) ho (by decide)
    exact x_pi (by first | (rw [sp_renter, if_neg (rv_nf c_6)]; done) | (rw [sp_renter, if_neg (rv_nf c_6)]; rfl)) X hr hlk hS dX0_renter_13 (RX.o hP hR ho (hO.at hS) (fun i hi => by first | rfl | simp (disch := omega) only [mdS_row, mdI_out, upRn] | (simp (disch := omega) only [mdS_row, mdI_out, upRn, *])) rfl rfl rfl)
theorem x_X0_things (l : Launch) (dC : Nat → ClassId) (dI : Nat → Nat → Nat) (dA : Nat → ClassId) (n c : Nat) (σ : mdT) (ab be : Int64) (v : Int32) (st : Int32) : Met l yX0_things (ws_ yX0_things cX0_things 4 (some .int)) { frames := 3, cells := 0, slots := 0, locals := 180 } (xPc dC dI dA (RX dC dI dA c n σ ab be) [.ref n, .int v, .int st]) (xQi (S := Unit) (fun r_ _ => r_ = (sp_things σ v st).1) (fun _ => (RX dC dI dA c n (sp_things σ v st).2 ab be)) (bkA n 96)) 0 0 (bkA n 96) := by
  refine x_in (by decide) rfl (Nat.le_of_ble_eq_true rfl) (lv := [(0, .ref n), (1, .int v), (2, .int st)]) rfl ?_
  intro p e s m below meth c_ X hN hnm hr hlk hP ls hl
  obtain ⟨T, ξ, V, V2, im, many, rent, rd, un, hs, ev, ty, hP, hR, ho, hO⟩ := hP
  have ho0 := ho
  have hR0 := hR
  have hV := hO.1
  have hT := hO.tb
  have hm := hR.m6
  have hr6 := hR.r6
  have hd6 := hR.d6
  have hu8 := hR.u8
  have hs12 := hR.h12
  have hS : va_S (bkA n 96) s.heap s.heap [] := va_S.rf
  refine lv_aload_n X.1 X.2.1 dX0_things_0 rfl (lv_at hl 0 rfl) ?_
  refine lv_iload_n X.1 X.2.1 dX0_things_1 rfl (lv_at hl 1 rfl) ?_
  refine x_cSe (x_runV X hN hP (As := [.int v]) (rest := []) (x_X0_isView l dC dI dA n ξ V V2 im ab be v c many rent rd un hs ev (σ 0) hR) xkv_X0_132 (x_recv (ci := 0) X.2.2.2.2.2 hP (j := 0) (by decide) (xe_x0 ..) rfl) rfl rfl ⟨Nat.le_of_ble_eq_true rfl, Nat.le_of_ble_eq_true rfl⟩ hl.1 (Nat.le_of_ble_eq_true rfl) dX0_things_2 ⟨Nat.le_of_ble_eq_true rfl, Nat.le_of_ble_eq_true rfl⟩) ?_
  refine rn_zt (tgt := 20) X.1 X.2.1 dX0_things_5 (by decide) (fun c_5 => ?_) (fun c_5 => ?_)
  · refine lv_aload_n X.1 X.2.1 dX0_things_20 rfl (lv_at hl 0 rfl) ?_
    refine x_cWi (x_runV X hN hP (As := []) (rest := []) (x_X0_bad l dC dI dA n ξ V V2 im ab be) xkv_X0_110 (x_recv (ci := 0) X.2.2.2.2.2 hP (j := 0) (by decide) (xe_x0 ..) rfl) rfl rfl ⟨Nat.le_of_ble_eq_true rfl, Nat.le_of_ble_eq_true rfl⟩ hl.1 (Nat.le_of_ble_eq_true rfl) dX0_things_21 ⟨Nat.le_of_ble_eq_true rfl, Nat.le_of_ble_eq_true rfl⟩) hS (fun _ h => h) (fun _ h => h) (fun r21 _ H locs hr1 hP1 hz1 hk1 hS => ?_)
    subst hr1
    have hP := hP1
    have hR := hR.cg (S' := fun i_ => (mdS ξ 89 0 (ξ 89 0 + nI 1)) (1 + i_)) (fun i hi => by first | rfl | simp (disch := omega) only [mdS_row, mdI_out, upRn] | (simp (disch := omega) only [mdS_row, mdI_out, upRn, *])) (fun _ _ => rfl)
    have ho := oR.b (k := 0) ho (by decide)
    exact x_pi (by first | (rw [sp_things, if_neg (rv_nf c_5)]; done) | (rw [sp_things, if_neg (rv_nf c_5)]; rfl) | (rw [sp_things, if_pos c_5, if_neg (rv_nf c_17)]; done) | (rw [sp_things, if_pos c_5, if_neg (rv_nf c_17)]; rfl)) X hr hlk hS dX0_things_24 (RX.o hP hR ho (hO.at hS) (fun i hi => by first | rfl | simp (disch := omega) only [mdS_row, mdI_out, upRn] | (simp (disch := omega) only [mdS_row, mdI_out, upRn, *])) rfl rfl rfl)
  · obtain ⟨j, hj, hv⟩ := rv_isx hR.f0 hm c_5
    refine lv_iload_n X.1 X.2.1 dX0_things_8 rfl (lv_at hl 2 rfl) ?_
    refine lv_i2l X.1 X.2.1 dX0_things_9 rfl ?_
    refine lv_lconst (v := 0) X.1 X.2.1 dX0_things_10 rfl ?_
    refine lv_ldc2 (v := 255) X.1 X.2.1 X.2.2.2.1 (X.2.2.2.2.1 _ q421) dX0_things_11 ?_
    refine x_cSe (x_runSp X (As := [.long (Int32.toInt64 st), .long 0, .long 255]) (rest := []) (x_X0_in l (Int32.toInt64 st) 0 255) xks_X0_89 rfl rfl ⟨Nat.le_of_ble_eq_true rfl, Nat.le_of_ble_eq_true rfl⟩ hl.1 (Nat.le_of_ble_eq_true rfl) dX0_things_14 ⟨Nat.le_of_ble_eq_true rfl, Nat.le_of_ble_eq_true rfl⟩) ?_
    refine rn_zf (tgt := 25) X.1 X.2.1 dX0_things_17 (by decide) (fun c_17 => ?_) (fun c_17 => ?_)
    · refine lv_aload_n X.1 X.2.1 dX0_things_25 rfl (lv_at hl 0 rfl) ?_
      refine xb_get (C := RX0) (T := TX0) (v := .ref (n + 1)) X in_X0 (ci := 0) rfl hP (j := 0) (by decide) (xe_x0 ..) 0 (by decide) q248 rfl rfl dX0_things_26 ?_
      refine xb_getN (host := "RentedViews") (C := RX1) (T := TX1) (v := .ref (n + 3)) X in_X1 (ci := 1) rfl hP (j := 1) (by decide) (xe_x1 ..) 1 (by decide) (x_nest hN q142 rfl) rfl rfl dX0_things_29 ?_
      refine lv_iload_n X.1 X.2.1 dX0_things_32 rfl (lv_at hl 1 rfl) ?_
      refine rn_co (y := nI j) hv ?_
      refine xb_iald X hP (j := 3) (by decide) (n := 6) (f := ξ 3) rfl (by omega) (by decide) dX0_things_33 ?_
      refine rn_co (y := (σ 0) (7 + 6 * j + 5)) (hR.thg (by omega)) ?_
      refine lv_istore_n (lv' := [(3, .int ((σ 0) (7 + 6 * j + 5))), (0, .ref n), (1, .int v), (2, .int st)]) X.1 X.2.1 dX0_things_34 rfl hl (by decide) rfl (fun ls hl => ?_)
      refine lv_aload_n X.1 X.2.1 dX0_things_35 rfl (lv_at hl 1 rfl) ?_
      refine xb_get (C := RX0) (T := TX0) (v := .ref (n + 1)) X in_X0 (ci := 0) rfl hP (j := 0) (by decide) (xe_x0 ..) 0 (by decide) q248 rfl rfl dX0_things_36 ?_
      refine xb_getN (host := "RentedViews") (C := RX1) (T := TX1) (v := .ref (n + 3)) X in_X1 (ci := 1) rfl hP (j := 1) (by decide) (xe_x1 ..) 1 (by decide) (x_nest hN q142 rfl) rfl rfl dX0_things_39 ?_
      refine lv_iload_n X.1 X.2.1 dX0_things_42 rfl (lv_at hl 2 rfl) ?_
      refine rn_co (y := nI j) hv ?_
      refine lv_iload_n X.1 X.2.1 dX0_things_43 rfl (lv_at hl 3 rfl) ?_
      refine xb_iast (E' := xE dA n (mdS ξ 3 j st) V V2 im ab be) X hP (fun _ h => h) hS (j := 3) (by decide) (n := 6) (f := ξ 3) rfl (by omega) (by decide) (fun i_ _ => xE_S dA n ξ V V2 im ab be 3 j st i_) dX0_things_44 (fun H locs hP hS => ?_)
      have hR := xR_T (sh_thing (x := st) hR (by omega))
      refine lv_iload_n X.1 X.2.1 dX0_things_45 rfl (lv_at hl 0 rfl) ?_
      exact x_pi (by first | (rw [sp_things, if_pos c_5, if_pos c_17, hv, rv_cln (by omega)]; done) | (rw [sp_things, if_pos c_5, if_pos c_17, hv, rv_cln (by omega)]; rfl)) X hr hlk hS dX0_things_46 (RX.mk (many := many) (ξ := ξ) (σ := σ) (σ' := mdS σ 0 (7 + 6 * j + 5) st) hP hR (ho.cg rfl rfl rfl rfl rfl rfl) (hO.at hS) (fun i hi => by first | rfl | simp (disch := omega) only [mdS_row, mdI_out, upRn] | (simp (disch := omega) only [mdS_row, mdI_out, upRn, *])) (Nat.le_refl _) (fun v hv j hj => upd_ne4 (by omega)) rfl rfl)
    · refine lv_aload_n X.1 X.2.1 dX0_things_20 rfl (lv_at hl 0 rfl) ?_
      refine x_cWi (x_runV X hN hP (As := []) (rest := []) (x_X0_bad l dC dI dA n ξ V V2 im ab be) xkv_X0_110 (x_recv (ci := 0) X.2.2.2.2.2 hP (j := 0) (by decide) (xe_x0 ..) rfl) rfl rfl ⟨Nat.le_of_ble_eq_true rfl, Nat.le_of_ble_eq_true rfl⟩ hl.1 (Nat.le_of_ble_eq_true rfl) dX0_things_21 ⟨Nat.le_of_ble_eq_true rfl, Nat.le_of_ble_eq_true rfl⟩) hS (fun _ h => h) (fun _ h => h) (fun r21 _ H locs hr1 hP1 hz1 hk1 hS => ?_)
      subst hr1
      have hP := hP1
      have hR := hR.cg (S' := fun i_ => (mdS ξ 89 0 (ξ 89 0 + nI 1)) (1 + i_)) (fun i hi => by first | rfl | simp (disch := omega) only [mdS_row, mdI_out, upRn] | (simp (disch := omega) only [mdS_row, mdI_out, upRn, *])) (fun _ _ => rfl)
      have ho := oR.b (k := 0) ho (by decide)
      exact x_pi (by first | (rw [sp_things, if_neg (rv_nf c_5)]; done) | (rw [sp_things, if_neg (rv_nf c_5)]; rfl) | (rw [sp_things, if_pos c_5, if_neg (rv_nf c_17)]; done) | (rw [sp_things, if_pos c_5, if_neg (rv_nf c_17)]; rfl)) X hr hlk hS dX0_things_24 (RX.o hP hR ho (hO.at hS) (fun i hi => by first | rfl | simp (disch := omega) only [mdS_row, mdI_out, upRn] | (simp (disch := omega) only [mdS_row, mdI_out, upRn, *])) rfl rfl rfl)
theorem x_X0_undo (l : Launch) (dC : Nat → ClassId) (dI : Nat → Nat → Nat) (dA : Nat → ClassId) (n c : Nat) (σ : mdT) (ab be : Int64) : Met l yX0_undo (ws_ yX0_undo cX0_undo 1 (some .int)) { frames := 3, cells := 0, slots := 0, locals := 180 } (xPc dC dI dA (RX dC dI dA c n σ ab be) [.ref n]) (xQi (S := Unit) (fun r_ _ => r_ = (sp_undo σ).1) (fun _ => (RX dC dI dA c n (sp_undo σ).2 ab be)) (bkA n 96)) 0 0 (bkA n 96) := by
  refine x_in (by decide) rfl (Nat.le_of_ble_eq_true rfl) (lv := [(0, .ref n)]) rfl ?_
  intro p e s m below meth c_ X hN hnm hr hlk hP ls hl
  obtain ⟨T, ξ, V, V2, im, many, rent, rd, un, hs, ev, ty, hP, hR, ho, hO⟩ := hP
  have ho0 := ho
  have hR0 := hR
  have hV := hO.1
  have hT := hO.tb
  have hm := hR.m6
  have hr6 := hR.r6
  have hd6 := hR.d6
  have hu8 := hR.u8
  have hs12 := hR.h12
  have hS : va_S (bkA n 96) s.heap s.heap [] := va_S.rf
  refine lv_aload_n X.1 X.2.1 dX0_undo_0 rfl (lv_at hl 0 rfl) ?_
  refine xb_get (C := RX0) (T := TX0) (v := .ref (n + 1)) X in_X0 (ci := 0) rfl hP (j := 0) (by decide) (xe_x0 ..) 0 (by decide) q248 rfl rfl dX0_undo_1 ?_
  refine xb_getN (host := "RentedViews") (C := RX1) (T := TX1) (v := .int (ξ 1 3)) X in_X1 (ci := 1) rfl hP (j := 1) (by decide) (xe_x1 ..) 10 (by decide) (x_nest hN q164 rfl) rfl rfl dX0_undo_4 ?_
  refine rn_co (y := nI un) hR.nu ?_
  refine rn_if_ne (tgt := 15) X.1 X.2.1 (by omega) dX0_undo_7 (by decide) (fun c_7 => ?_) (fun c_7 => ?_)
  · refine lv_aload_n X.1 X.2.1 dX0_undo_15 rfl (lv_at hl 0 rfl) ?_
    refine xb_get (C := RX0) (T := TX0) (v := .ref (n + 1)) X in_X0 (ci := 0) rfl hP (j := 0) (by decide) (xe_x0 ..) 0 (by decide) q248 rfl rfl dX0_undo_16 ?_
    refine lv_dup X.1 X.2.1 dX0_undo_19 rfl ?_
    refine xb_getN (host := "RentedViews") (C := RX1) (T := TX1) (v := .int (ξ 1 3)) X in_X1 (ci := 1) rfl hP (j := 1) (by decide) (xe_x1 ..) 10 (by decide) (x_nest hN q164 rfl) rfl rfl dX0_undo_20 ?_
    refine rn_co (y := nI un) hR.nu ?_
    refine lv_iconst (v := nI 1) X.1 X.2.1 dX0_undo_23 rfl ?_
    refine rn_isub X.1 X.2.1 (by omega) dX0_undo_24 ?_
    refine xb_putN (host := "RentedViews") (C := RX1) (T := TX1) (E' := xE dA n (mdS ξ 1 3 (nI (un - 1))) V V2 im ab be) X in_X1 tyX1 tyX1_ok nmX1 (ci := 1) rfl hP (fun _ h => h) hS (j := 1) (by decide) (xe_x1 ..) 10 (by decide) (x_nest hN q164 rfl) rfl rfl rfl rfl rfl (Nat.le_of_ble_eq_true rfl) (fun i_ _ => xE_S dA n ξ V V2 im ab be 1 3 (nI (un - 1)) i_) dX0_undo_25 (fun H locs hP hS => ?_)
    refine lv_aload_n X.1 X.2.1 dX0_undo_28 rfl (lv_at hl 0 rfl) ?_
    refine xb_get (C := RX0) (T := TX0) (v := .ref (n + 1)) X in_X0 (ci := 0) rfl hP (j := 0) (by decide) (xe_x0 ..) 0 (by decide) q248 rfl rfl dX0_undo_29 ?_
    refine xb_getN (host := "RentedViews") (C := RX1) (T := TX1) (v := .ref (n + 7)) X in_X1 (ci := 1) rfl hP (j := 1) (by decide) (xe_x1 ..) 8 (by decide) (x_nest hN q160 rfl) rfl rfl dX0_undo_32 ?_
    refine lv_aload_n X.1 X.2.1 dX0_undo_35 rfl (lv_at hl 0 rfl) ?_
    refine xb_get (C := RX0) (T := TX0) (v := .ref (n + 1)) X in_X0 (ci := 0) rfl hP (j := 0) (by decide) (xe_x0 ..) 0 (by decide) q248 rfl rfl dX0_undo_36 ?_
    refine xb_getN (host := "RentedViews") (C := RX1) (T := TX1) (v := .ref (n + 11)) X in_X1 (ci := 1) rfl hP (j := 1) (by decide) (xe_x1 ..) 9 (by decide) (x_nest hN q162 rfl) rfl rfl dX0_undo_39 ?_
    refine lv_aload_n X.1 X.2.1 dX0_undo_42 rfl (lv_at hl 0 rfl) ?_
    refine xb_get (C := RX0) (T := TX0) (v := .ref (n + 1)) X in_X0 (ci := 0) rfl hP (j := 0) (by decide) (xe_x0 ..) 0 (by decide) q248 rfl rfl dX0_undo_43 ?_
    refine xb_getN (host := "RentedViews") (C := RX1) (T := TX1) (v := .int ((mdS ξ 1 3 (nI (un - 1))) 1 3)) X in_X1 (ci := 1) rfl hP (j := 1) (by decide) (xe_x1 ..) 10 (by decide) (x_nest hN q164 rfl) rfl rfl dX0_undo_46 ?_
    refine rn_co (y := nI (un - 1)) rfl ?_
    refine xb_aald X hP (j := 11) (by decide) (t := 4) (C := RX2) (f := fun k_ => some (n + 1 + (11 + 4 * k_))) rfl rfl (by omega) (by decide) dX0_undo_49 ?_
    change W _ _ _ _ _ _ _ _ _ _ _ _ _ _ _ (F0 m _ ls (.ref (n + 1 + (11 + 4 * (un - 1))) :: _))
    refine x_cWv (x_runV X hN ⟨(sb_st (x_shop hP) (o := 6) stO.n), (sb_st (x_shop hP) (o := 11 + 4 * (un - 1)) (stO.w (by omega)))⟩ (As := [.ref (n + 1 + (11 + 4 * (un - 1)))]) (rest := []) (x_X2_takes l dC dI dA (n + 1 + 6) (fun r => (fun i => (mdS ξ 1 3 (nI (un - 1))) (1 + i)) (6 + r)) (fun r => (fun i => (mdS ξ 1 3 (nI (un - 1))) (1 + i)) (11 + 4 * (un - 1) + r)) (n + 1 + (11 + 4 * (un - 1))) (by omega)) xkv_X0_218 (x_recv (ci := 2) X.2.2.2.2.2 (sb_st (x_shop hP) (o := 6) stO.n) (j := 0) (by decide) (xe_t0 ..) rfl) rfl rfl ⟨Nat.le_of_ble_eq_true rfl, Nat.le_of_ble_eq_true rfl⟩ hl.1 (Nat.le_of_ble_eq_true rfl) dX0_undo_50 ⟨Nat.le_of_ble_eq_true rfl, Nat.le_of_ble_eq_true rfl⟩) hS (fun q h => by unfold bkA at *; omega) (fun q h => by unfold bkA at *; omega) (fun _ H locs _ hP1 hz1 hk1 hS => ?_)
    have hP := x_shopI hP (sb_stI (x_shop hP) hP1.1 hP1.2 stO.n (stO.w (by omega)) (fun q h1 h2 => hk1 q (bk_sz (x_shop hP) h1) h2) (by omega)) (fun q h1 h2 => hk1 q (bk_sz hP h1) (fun z => h2 (by unfold bkA at *; omega)))
    refine lv_aload_n X.1 X.2.1 dX0_undo_53 rfl (lv_at hl 0 rfl) ?_
    refine xb_get (C := RX0) (T := TX0) (v := .ref (n + 1)) X in_X0 (ci := 0) rfl hP (j := 0) (by decide) (xe_x0 ..) 0 (by decide) q248 rfl rfl dX0_undo_54 ?_
    refine xb_getN (host := "RentedViews") (C := RX1) (T := TX1) (v := .ref (n + 7)) X in_X1 (ci := 1) rfl hP (j := 1) (by decide) (xe_x1 ..) 8 (by decide) (x_nest hN q160 rfl) rfl rfl dX0_undo_57 ?_
    refine xb_getN (host := "RentedViews") (C := RX2) (T := TX2) (v := .int ((mdI (mdS ξ 1 3 (nI (un - 1))) 1 43 (mdI (fun i => (mdS ξ 1 3 (nI (un - 1))) (1 + i)) 6 4 (fun r => (fun i => (mdS ξ 1 3 (nI (un - 1))) (1 + i)) (11 + 4 * (un - 1) + r)))) 7 0)) X in_X2 (ci := 2) rfl hP (j := 7) (by decide) (xe_x7 ..) 2 (by decide) (x_nest hN q113 rfl) rfl rfl dX0_undo_60 ?_
    obtain ⟨hs2, ev2, hw⟩ := hR0.was (k := un - 1) (by omega)
    refine rn_co (y := σ 0 (115 + 51 * (un - 1) + 13)) (show (mdI _ 1 43 _ : mdT) (1 + 6) 0 = _ from by rw [mdI_in _ _ (by decide), show (6 : Nat) = 6 + 0 from rfl, mdI_in _ _ (by decide)]; exact (congrFun (mdS_row _ _ _ (by omega)) 0).trans hw.2.2.2.2.1) ?_
    exact x_pi (by rw [sp_undo, if_neg (by rw [hR0.f6]; exact fun z => c_7 ((nI_eq (by omega) (by omega)).mp (z.trans nI_0.symm))), hR0.f6, rv_cln (by omega)]) X hr hlk hS dX0_undo_63 (RX.mk (many := many) (ξ := ξ) (σ := σ) (σ' := mdN σ (rv_undo (σ 0) (un - 1))) hP (sh_undo hR0 (by omega) hw (show (mdI _ 1 43 _ : mdT) (1 + 0) 3 = _ from by rw [mdI_in _ _ (by decide), mdI_out _ _ (by decide)]; rfl) (fun k hk => show (mdI _ 1 43 _ : mdT) (1 + 0) k = _ from by rw [mdI_in _ _ (by decide), mdI_out _ _ (by decide)]; exact mdS_ne (a := 1) hk) (fun r hr => show (mdI _ 1 43 _ : mdT) (1 + (6 + r)) = _ from by rw [mdI_in _ _ (by omega), mdI_in _ _ hr]; exact mdS_row _ _ _ (by omega)) (fun i h1 h2 => if h43 : i < 43 then (show (mdI _ 1 43 _ : mdT) (1 + i) = _ from by rw [mdI_in _ _ h43, mdI_out _ _ (by omega)]; exact mdS_row _ _ _ (by omega)) else (show (mdI _ 1 43 _ : mdT) (1 + i) = _ from by rw [mdI_out _ _ (by omega)]; exact mdS_row _ _ _ (by omega)))) (ho.cg rfl rfl rfl rfl rfl rfl) (hO.at hS) (fun i hi => by first | rfl | simp (disch := omega) only [mdS_row, mdI_out, upRn] | (simp (disch := omega) only [mdS_row, mdI_out, upRn, *])) (Nat.le_refl _) (fun v hv j hj => rv_undo_n _ _ (by omega) (by omega) (by omega) (by omega) (by omega) (by omega) (by omega)) rfl rfl)
  · refine lv_aload_n X.1 X.2.1 dX0_undo_10 rfl (lv_at hl 0 rfl) ?_
    refine x_cWi (x_runV X hN hP (As := []) (rest := []) (x_X0_no l dC dI dA n ξ V V2 im ab be) xkv_X0_189 (x_recv (ci := 0) X.2.2.2.2.2 hP (j := 0) (by decide) (xe_x0 ..) rfl) rfl rfl ⟨Nat.le_of_ble_eq_true rfl, Nat.le_of_ble_eq_true rfl⟩ hl.1 (Nat.le_of_ble_eq_true rfl) dX0_undo_11 ⟨Nat.le_of_ble_eq_true rfl, Nat.le_of_ble_eq_true rfl⟩) hS (fun _ h => h) (fun _ h => h) (fun r11 _ H locs hr1 hP1 hz1 hk1 hS => ?_)
    subst hr1
    have hP := hP1
    have hR := hR.cg (S' := fun i_ => (mdS ξ 89 1 (ξ 89 1 + nI 1)) (1 + i_)) (fun i hi => by first | rfl | simp (disch := omega) only [mdS_row, mdI_out, upRn] | (simp (disch := omega) only [mdS_row, mdI_out, upRn, *])) (fun _ _ => rfl)
    have ho := oR.b (k := 1) ho (by decide)
    exact x_pi (by first | (rw [sp_undo, if_pos (by rw [hR0.f6, c_7]; rfl)]; done) | (rw [sp_undo, if_pos (by rw [hR0.f6, c_7]; rfl)]; rfl)) X hr hlk hS dX0_undo_14 (RX.o hP hR ho (hO.at hS) (fun i hi => by first | rfl | simp (disch := omega) only [mdS_row, mdI_out, upRn] | (simp (disch := omega) only [mdS_row, mdI_out, upRn, *])) rfl rfl rfl)
theorem rv_snap_5 {f g : Nat → Int32} (h : ∀ k, k < 97 → k ≠ 5 → g k = f k) : ∀ j, j < 51 → rv_snap g j = rv_snap f j := by
  intro j hj
  unfold rv_snap
  by_cases h1 : j < 6
  · rw [if_pos h1, if_pos h1]; exact h _ (by omega) (by omega)
  rw [if_neg h1, if_neg h1]
  by_cases h2 : j < 12
  · rw [if_pos h2, if_pos h2]; exact h _ (by omega) (by omega)
  rw [if_neg h2, if_neg h2, h 2 (by omega) (by omega), h 3 (by omega) (by omega), h 4 (by omega) (by omega), h (61 + (j - 15)) (by omega) (by omega)]
theorem sh_read {c many rent rd un hs ev : Nat} {f : Nat → Int32} {S S' : mdT} {v e w : Int32} (h : shR c many rent rd un hs ev f S) (hr : rd < 6) (h0 : S' 0 0 = S 0 0 ∧ S' 0 1 = S 0 1 ∧ S' 0 2 = nI (rd + 1) ∧ S' 0 3 = S 0 3) (h5 : S' 5 = upd (upd (upd (S 5) (3 * rd) v) (3 * rd + 1) e) (3 * rd + 2) w) (hi : ∀ i, i ≠ 0 → i ≠ 5 → S' i = S i) : shR c many rent (rd + 1) un hs ev (upd (upd (upd (upd f (97 + 3 * rd) v) (97 + 3 * rd + 1) e) (97 + 3 * rd + 2) w) 5 (nI (rd + 1))) S' := by
  have hm6 := h.m6
  have hr6 := h.r6
  have hs12 := h.h12
  have ek : ∀ k, k ≠ 5 → k < 97 + 3 * rd ∨ 97 + 3 * rd + 3 ≤ k → upd (upd (upd (upd f (97 + 3 * rd) v) (97 + 3 * rd + 1) e) (97 + 3 * rd + 2) w) 5 (nI (rd + 1)) k = f k := fun k h5 h => by
    simp only [upd]; repeat rw [if_neg (by omega)]
  refine ⟨⟨h.m6, h.r6, by omega, h.u8⟩, ⟨by rw [ek 0 (by omega) (by omega)]; exact h.f0, by rw [ek 1 (by omega) (by omega)]; exact h.f1, rfl, by rw [ek 6 (by omega) (by omega)]; exact h.f6⟩, ⟨h0.1.trans h.nm, h0.2.1.trans h.nr, h0.2.2.1, h0.2.2.2.trans h.nu⟩, fun v hv => ?_, fun r hr => ?_, fun k hk => ?_, ?_, fun k hk => ?_⟩
  · rw [hi 2 (by omega) (by omega), ek _ (by omega) (by omega)]; exact h.thg hv
  · rw [hi 3 (by omega) (by omega), hi 4 (by omega) (by omega), ek _ (by omega) (by omega), ek _ (by omega) (by omega)]; exact ⟨h.wal hr, h.wan hr⟩
  · rw [h5]
    simp only [upd]
    by_cases e1 : k < 3 * rd
    · repeat rw [if_neg (by omega)]
      exact h.rea e1
    · rcases (show k = 3 * rd ∨ k = 3 * rd + 1 ∨ k = 3 * rd + 2 by omega) with e | e | e <;> subst e <;> simp <;> grind
  · exact h.now.cg (fun r hr => hi _ (by omega) (by omega)) (fun j hj => rv_snap_5 (fun k hk h5 => ek k h5 (by omega)) j hj) h.m6 h.r6
  · obtain ⟨x, y, q⟩ := h.was hk
    exact ⟨x, y, q.cg (fun r hr => hi _ (by omega) (by omega)) (fun j hj => ek _ (by omega) (by omega)) h.m6 h.r6⟩
theorem x_X0_reading (l : Launch) (dC : Nat → ClassId) (dI : Nat → Nat → Nat) (dA : Nat → ClassId) (n c : Nat) (σ : mdT) (ab be : Int64) (v : Int32) (ei : Int32) (we : Int32) : Met l yX0_reading (ws_ yX0_reading cX0_reading 5 (some .int)) { frames := 3, cells := 0, slots := 0, locals := 180 } (xPc dC dI dA (RX dC dI dA c n σ ab be) [.ref n, .int v, .int ei, .int we]) (xQi (S := Unit) (fun r_ _ => r_ = (sp_reading σ v ei we).1) (fun _ => (RX dC dI dA c n (sp_reading σ v ei we).2 ab be)) (bkA n 96)) 0 0 (bkA n 96) := by
  refine x_in (by decide) rfl (Nat.le_of_ble_eq_true rfl) (lv := [(0, .ref n), (1, .int v), (2, .int ei), (3, .int we)]) rfl ?_
  intro p e s m below meth c_ X hN hnm hr hlk hP ls hl
  obtain ⟨T, ξ, V, V2, im, many, rent, rd, un, hs, ev, ty, hP, hR, ho, hO⟩ := hP
  have ho0 := ho
  have hR0 := hR
  have hV := hO.1
  have hT := hO.tb
  have hm := hR.m6
  have hr6 := hR.r6
  have hd6 := hR.d6
  have hu8 := hR.u8
  have hs12 := hR.h12
  have hS : va_S (bkA n 96) s.heap s.heap [] := va_S.rf
  refine lv_aload_n X.1 X.2.1 dX0_reading_0 rfl (lv_at hl 0 rfl) ?_
  refine lv_iload_n X.1 X.2.1 dX0_reading_1 rfl (lv_at hl 1 rfl) ?_
  refine x_cSe (x_runV X hN hP (As := [.int v]) (rest := []) (x_X0_isView l dC dI dA n ξ V V2 im ab be v c many rent rd un hs ev (σ 0) hR) xkv_X0_132 (x_recv (ci := 0) X.2.2.2.2.2 hP (j := 0) (by decide) (xe_x0 ..) rfl) rfl rfl ⟨Nat.le_of_ble_eq_true rfl, Nat.le_of_ble_eq_true rfl⟩ hl.1 (Nat.le_of_ble_eq_true rfl) dX0_reading_2 ⟨Nat.le_of_ble_eq_true rfl, Nat.le_of_ble_eq_true rfl⟩) ?_
  refine rn_zt (tgt := 22) X.1 X.2.1 dX0_reading_5 (by decide) (fun c_5 => ?_) (fun c_5 => ?_)
  · refine lv_aload_n X.1 X.2.1 dX0_reading_22 rfl (lv_at hl 0 rfl) ?_
    refine x_cWi (x_runV X hN hP (As := []) (rest := []) (x_X0_bad l dC dI dA n ξ V V2 im ab be) xkv_X0_110 (x_recv (ci := 0) X.2.2.2.2.2 hP (j := 0) (by decide) (xe_x0 ..) rfl) rfl rfl ⟨Nat.le_of_ble_eq_true rfl, Nat.le_of_ble_eq_true rfl⟩ hl.1 (Nat.le_of_ble_eq_true rfl) dX0_reading_23 ⟨Nat.le_of_ble_eq_true rfl, Nat.le_of_ble_eq_true rfl⟩) hS (fun _ h => h) (fun _ h => h) (fun r23 _ H locs hr1 hP1 hz1 hk1 hS => ?_)
    subst hr1
    have hP := hP1
    have hR := hR.cg (S' := fun i_ => (mdS ξ 89 0 (ξ 89 0 + nI 1)) (1 + i_)) (fun i hi => by first | rfl | simp (disch := omega) only [mdS_row, mdI_out, upRn] | (simp (disch := omega) only [mdS_row, mdI_out, upRn, *])) (fun _ _ => rfl)
    have ho := oR.b (k := 0) ho (by decide)
    exact x_pi (by first | (rw [sp_reading, if_neg (rv_nf c_5)]; done) | (rw [sp_reading, if_neg (rv_nf c_5)]; rfl) | (rw [sp_reading, if_pos c_5, if_neg (rv_nf c_12)]; done) | (rw [sp_reading, if_pos c_5, if_neg (rv_nf c_12)]; rfl) | (rw [sp_reading, if_pos c_5, if_pos c_12, if_neg (rv_nf c_19)]; done) | (rw [sp_reading, if_pos c_5, if_pos c_12, if_neg (rv_nf c_19)]; rfl)) X hr hlk hS dX0_reading_26 (RX.o hP hR ho (hO.at hS) (fun i hi => by first | rfl | simp (disch := omega) only [mdS_row, mdI_out, upRn] | (simp (disch := omega) only [mdS_row, mdI_out, upRn, *])) rfl rfl rfl)
  · refine lv_iload_n X.1 X.2.1 dX0_reading_8 rfl (lv_at hl 2 rfl) ?_
    refine x_cSe (x_runSp X (As := [.int ei]) (rest := []) (x_X0_isEvening l ei) xks_X0_244 rfl rfl ⟨Nat.le_of_ble_eq_true rfl, Nat.le_of_ble_eq_true rfl⟩ hl.1 (Nat.le_of_ble_eq_true rfl) dX0_reading_9 ⟨Nat.le_of_ble_eq_true rfl, Nat.le_of_ble_eq_true rfl⟩) ?_
    refine rn_zt (tgt := 22) X.1 X.2.1 dX0_reading_12 (by decide) (fun c_12 => ?_) (fun c_12 => ?_)
    · refine lv_aload_n X.1 X.2.1 dX0_reading_22 rfl (lv_at hl 0 rfl) ?_
      refine x_cWi (x_runV X hN hP (As := []) (rest := []) (x_X0_bad l dC dI dA n ξ V V2 im ab be) xkv_X0_110 (x_recv (ci := 0) X.2.2.2.2.2 hP (j := 0) (by decide) (xe_x0 ..) rfl) rfl rfl ⟨Nat.le_of_ble_eq_true rfl, Nat.le_of_ble_eq_true rfl⟩ hl.1 (Nat.le_of_ble_eq_true rfl) dX0_reading_23 ⟨Nat.le_of_ble_eq_true rfl, Nat.le_of_ble_eq_true rfl⟩) hS (fun _ h => h) (fun _ h => h) (fun r23 _ H locs hr1 hP1 hz1 hk1 hS => ?_)
      subst hr1
      have hP := hP1
      have hR := hR.cg (S' := fun i_ => (mdS ξ 89 0 (ξ 89 0 + nI 1)) (1 + i_)) (fun i hi => by first | rfl | simp (disch := omega) only [mdS_row, mdI_out, upRn] | (simp (disch := omega) only [mdS_row, mdI_out, upRn, *])) (fun _ _ => rfl)
      have ho := oR.b (k := 0) ho (by decide)
      exact x_pi (by first | (rw [sp_reading, if_neg (rv_nf c_5)]; done) | (rw [sp_reading, if_neg (rv_nf c_5)]; rfl) | (rw [sp_reading, if_pos c_5, if_neg (rv_nf c_12)]; done) | (rw [sp_reading, if_pos c_5, if_neg (rv_nf c_12)]; rfl) | (rw [sp_reading, if_pos c_5, if_pos c_12, if_neg (rv_nf c_19)]; done) | (rw [sp_reading, if_pos c_5, if_pos c_12, if_neg (rv_nf c_19)]; rfl)) X hr hlk hS dX0_reading_26 (RX.o hP hR ho (hO.at hS) (fun i hi => by first | rfl | simp (disch := omega) only [mdS_row, mdI_out, upRn] | (simp (disch := omega) only [mdS_row, mdI_out, upRn, *])) rfl rfl rfl)
    · refine lv_iload_n X.1 X.2.1 dX0_reading_15 rfl (lv_at hl 3 rfl) ?_
      refine x_cSe (x_runSp X (As := [.int we]) (rest := []) (x_X0_isWeather l we) xks_X0_106 rfl rfl ⟨Nat.le_of_ble_eq_true rfl, Nat.le_of_ble_eq_true rfl⟩ hl.1 (Nat.le_of_ble_eq_true rfl) dX0_reading_16 ⟨Nat.le_of_ble_eq_true rfl, Nat.le_of_ble_eq_true rfl⟩) ?_
      refine rn_zf (tgt := 27) X.1 X.2.1 dX0_reading_19 (by decide) (fun c_19 => ?_) (fun c_19 => ?_)
      · refine lv_aload_n X.1 X.2.1 dX0_reading_27 rfl (lv_at hl 0 rfl) ?_
        refine xb_get (C := RX0) (T := TX0) (v := .ref (n + 1)) X in_X0 (ci := 0) rfl hP (j := 0) (by decide) (xe_x0 ..) 0 (by decide) q248 rfl rfl dX0_reading_28 ?_
        refine xb_getN (host := "RentedViews") (C := RX1) (T := TX1) (v := .int (ξ 1 2)) X in_X1 (ci := 1) rfl hP (j := 1) (by decide) (xe_x1 ..) 7 (by decide) (x_nest hN q158 rfl) rfl rfl dX0_reading_31 ?_
        refine rn_co (y := nI rd) hR.nd ?_
        refine lv_bipush (v := nI 6) X.1 X.2.1 dX0_reading_34 rfl ?_
        refine rn_icmp_ne (tgt := 44) X.1 X.2.1 (by omega) (by omega) dX0_reading_36 (by decide) (fun c_36 => ?_) (fun c_36 => ?_)
        · refine lv_iconst (v := nI 3) X.1 X.2.1 dX0_reading_44 rfl ?_
          refine lv_aload_n X.1 X.2.1 dX0_reading_45 rfl (lv_at hl 0 rfl) ?_
          refine xb_get (C := RX0) (T := TX0) (v := .ref (n + 1)) X in_X0 (ci := 0) rfl hP (j := 0) (by decide) (xe_x0 ..) 0 (by decide) q248 rfl rfl dX0_reading_46 ?_
          refine xb_getN (host := "RentedViews") (C := RX1) (T := TX1) (v := .int (ξ 1 2)) X in_X1 (ci := 1) rfl hP (j := 1) (by decide) (xe_x1 ..) 7 (by decide) (x_nest hN q158 rfl) rfl rfl dX0_reading_49 ?_
          refine rn_co (y := nI rd) hR.nd ?_
          refine rn_imul X.1 X.2.1 dX0_reading_52 ?_
          refine lv_istore (lv' := [(4, .int (nI (3 * rd))), (0, .ref n), (1, .int v), (2, .int ei), (3, .int we)]) X.1 X.2.1 dX0_reading_53 hl (by decide) rfl (fun ls hl => ?_)
          refine lv_aload_n X.1 X.2.1 dX0_reading_55 rfl (lv_at hl 1 rfl) ?_
          refine xb_get (C := RX0) (T := TX0) (v := .ref (n + 1)) X in_X0 (ci := 0) rfl hP (j := 0) (by decide) (xe_x0 ..) 0 (by decide) q248 rfl rfl dX0_reading_56 ?_
          refine xb_getN (host := "RentedViews") (C := RX1) (T := TX1) (v := .ref (n + 6)) X in_X1 (ci := 1) rfl hP (j := 1) (by decide) (xe_x1 ..) 6 (by decide) (x_nest hN q156 rfl) rfl rfl dX0_reading_59 ?_
          refine lv_iload X.1 X.2.1 dX0_reading_62 (lv_at hl 0 rfl) ?_
          refine lv_iload_n X.1 X.2.1 dX0_reading_64 rfl (lv_at hl 2 rfl) ?_
          refine xb_iast (E' := xE dA n (mdS ξ 6 (3 * rd) v) V V2 im ab be) X hP (fun _ h => h) hS (j := 6) (by decide) (n := 18) (f := ξ 6) rfl (by omega) (by decide) (fun i_ _ => xE_S dA n ξ V V2 im ab be 6 (3 * rd) v i_) dX0_reading_65 (fun H locs hP hS => ?_)
          refine lv_aload_n X.1 X.2.1 dX0_reading_66 rfl (lv_at hl 1 rfl) ?_
          refine xb_get (C := RX0) (T := TX0) (v := .ref (n + 1)) X in_X0 (ci := 0) rfl hP (j := 0) (by decide) (xe_x0 ..) 0 (by decide) q248 rfl rfl dX0_reading_67 ?_
          refine xb_getN (host := "RentedViews") (C := RX1) (T := TX1) (v := .ref (n + 6)) X in_X1 (ci := 1) rfl hP (j := 1) (by decide) (xe_x1 ..) 6 (by decide) (x_nest hN q156 rfl) rfl rfl dX0_reading_70 ?_
          refine lv_iload X.1 X.2.1 dX0_reading_73 (lv_at hl 0 rfl) ?_
          refine lv_iconst (v := nI 1) X.1 X.2.1 dX0_reading_75 rfl ?_
          refine rn_iadd X.1 X.2.1 dX0_reading_76 ?_
          refine lv_iload_n X.1 X.2.1 dX0_reading_77 rfl (lv_at hl 3 rfl) ?_
          refine xb_iast (E' := xE dA n (mdS (mdS ξ 6 (3 * rd) v) 6 ((3 * rd) + 1) ei) V V2 im ab be) X hP (fun _ h => h) hS (j := 6) (by decide) (n := 18) (f := (mdS ξ 6 (3 * rd) v) 6) rfl (by omega) (by decide) (fun i_ _ => xE_S dA n (mdS ξ 6 (3 * rd) v) V V2 im ab be 6 ((3 * rd) + 1) ei i_) dX0_reading_78 (fun H locs hP hS => ?_)
          refine lv_aload_n X.1 X.2.1 dX0_reading_79 rfl (lv_at hl 1 rfl) ?_
          refine xb_get (C := RX0) (T := TX0) (v := .ref (n + 1)) X in_X0 (ci := 0) rfl hP (j := 0) (by decide) (xe_x0 ..) 0 (by decide) q248 rfl rfl dX0_reading_80 ?_
          refine xb_getN (host := "RentedViews") (C := RX1) (T := TX1) (v := .ref (n + 6)) X in_X1 (ci := 1) rfl hP (j := 1) (by decide) (xe_x1 ..) 6 (by decide) (x_nest hN q156 rfl) rfl rfl dX0_reading_83 ?_
          refine lv_iload X.1 X.2.1 dX0_reading_86 (lv_at hl 0 rfl) ?_
          refine lv_iconst (v := nI 2) X.1 X.2.1 dX0_reading_88 rfl ?_
          refine rn_iadd X.1 X.2.1 dX0_reading_89 ?_
          refine lv_iload_n X.1 X.2.1 dX0_reading_90 rfl (lv_at hl 4 rfl) ?_
          refine xb_iast (E' := xE dA n (mdS (mdS (mdS ξ 6 (3 * rd) v) 6 ((3 * rd) + 1) ei) 6 ((3 * rd) + 2) we) V V2 im ab be) X hP (fun _ h => h) hS (j := 6) (by decide) (n := 18) (f := (mdS (mdS ξ 6 (3 * rd) v) 6 ((3 * rd) + 1) ei) 6) rfl (by omega) (by decide) (fun i_ _ => xE_S dA n (mdS (mdS ξ 6 (3 * rd) v) 6 ((3 * rd) + 1) ei) V V2 im ab be 6 ((3 * rd) + 2) we i_) dX0_reading_91 (fun H locs hP hS => ?_)
          refine lv_aload_n X.1 X.2.1 dX0_reading_92 rfl (lv_at hl 1 rfl) ?_
          refine xb_get (C := RX0) (T := TX0) (v := .ref (n + 1)) X in_X0 (ci := 0) rfl hP (j := 0) (by decide) (xe_x0 ..) 0 (by decide) q248 rfl rfl dX0_reading_93 ?_
          refine lv_dup X.1 X.2.1 dX0_reading_96 rfl ?_
          refine xb_getN (host := "RentedViews") (C := RX1) (T := TX1) (v := .int ((mdS (mdS (mdS ξ 6 (3 * rd) v) 6 ((3 * rd) + 1) ei) 6 ((3 * rd) + 2) we) 1 2)) X in_X1 (ci := 1) rfl hP (j := 1) (by decide) (xe_x1 ..) 7 (by decide) (x_nest hN q158 rfl) rfl rfl dX0_reading_97 ?_
          refine rn_co (y := nI rd) hR0.nd ?_
          refine lv_iconst (v := nI 1) X.1 X.2.1 dX0_reading_100 rfl ?_
          refine rn_iadd X.1 X.2.1 dX0_reading_101 ?_
          refine xb_putN (host := "RentedViews") (C := RX1) (T := TX1) (E' := xE dA n (mdS (mdS (mdS (mdS ξ 6 (3 * rd) v) 6 ((3 * rd) + 1) ei) 6 ((3 * rd) + 2) we) 1 2 (nI (rd + 1))) V V2 im ab be) X in_X1 tyX1 tyX1_ok nmX1 (ci := 1) rfl hP (fun _ h => h) hS (j := 1) (by decide) (xe_x1 ..) 7 (by decide) (x_nest hN q158 rfl) rfl rfl rfl rfl rfl (Nat.le_of_ble_eq_true rfl) (fun i_ _ => xE_S dA n (mdS (mdS (mdS ξ 6 (3 * rd) v) 6 ((3 * rd) + 1) ei) 6 ((3 * rd) + 2) we) V V2 im ab be 1 2 (nI (rd + 1)) i_) dX0_reading_102 (fun H locs hP hS => ?_)
          refine lv_aload_n X.1 X.2.1 dX0_reading_105 rfl (lv_at hl 1 rfl) ?_
          refine xb_get (C := RX0) (T := TX0) (v := .ref (n + 1)) X in_X0 (ci := 0) rfl hP (j := 0) (by decide) (xe_x0 ..) 0 (by decide) q248 rfl rfl dX0_reading_106 ?_
          refine xb_getN (host := "RentedViews") (C := RX1) (T := TX1) (v := .int ((mdS (mdS (mdS (mdS ξ 6 (3 * rd) v) 6 ((3 * rd) + 1) ei) 6 ((3 * rd) + 2) we) 1 2 (nI (rd + 1))) 1 2)) X in_X1 (ci := 1) rfl hP (j := 1) (by decide) (xe_x1 ..) 7 (by decide) (x_nest hN q158 rfl) rfl rfl dX0_reading_109 ?_
          refine rn_co (y := nI (rd + 1)) rfl ?_
          exact x_pi (by rw [sp_reading, if_pos c_5, if_pos c_12, if_pos c_19, if_neg (by rw [hR0.f5]; exact fun z => c_36 ((nI_eq (by omega) (by omega)).mp (z.trans (show (6 : Int32) = nI 6 from rfl)))), hR0.f5, rv_cln (by omega), show nI rd + 1 = nI (rd + 1) from (by rw [← nI_add]; rfl)]) X hr hlk hS dX0_reading_112 (RX.mk (many := many) (ξ := ξ) (σ := σ) (σ' := mdS (mdS (mdS (mdS σ 0 (97 + 3 * rd) v) 0 (97 + 3 * rd + 1) ei) 0 (97 + 3 * rd + 2) we) 0 5 (nI (rd + 1))) hP (sh_read hR0 (by omega) ⟨rfl, rfl, rfl, rfl⟩ rfl (fun i h1 h2 => by simp (disch := omega) only [mdS_row])) (ho.cg rfl rfl rfl rfl rfl rfl) (hO.at hS) (fun i hi => by first | rfl | simp (disch := omega) only [mdS_row, mdI_out, upRn] | (simp (disch := omega) only [mdS_row, mdI_out, upRn, *])) (Nat.le_refl _) (fun v hv j hj => by show upd (upd (upd (upd (σ 0) _ _) _ _) _ _) _ _ _ = _; simp only [upd]; repeat rw [if_neg (by omega)]) rfl rfl)
        · refine lv_aload_n X.1 X.2.1 dX0_reading_39 rfl (lv_at hl 0 rfl) ?_
          refine x_cWi (x_runV X hN hP (As := []) (rest := []) (x_X0_full l dC dI dA n ξ V V2 im ab be) xkv_X0_114 (x_recv (ci := 0) X.2.2.2.2.2 hP (j := 0) (by decide) (xe_x0 ..) rfl) rfl rfl ⟨Nat.le_of_ble_eq_true rfl, Nat.le_of_ble_eq_true rfl⟩ hl.1 (Nat.le_of_ble_eq_true rfl) dX0_reading_40 ⟨Nat.le_of_ble_eq_true rfl, Nat.le_of_ble_eq_true rfl⟩) hS (fun _ h => h) (fun _ h => h) (fun r40 _ H locs hr1 hP1 hz1 hk1 hS => ?_)
          subst hr1
          have hP := hP1
          have hR := hR.cg (S' := fun i_ => (mdS ξ 89 2 (ξ 89 2 + nI 1)) (1 + i_)) (fun i hi => by first | rfl | simp (disch := omega) only [mdS_row, mdI_out, upRn] | (simp (disch := omega) only [mdS_row, mdI_out, upRn, *])) (fun _ _ => rfl)
          have ho := oR.b (k := 2) ho (by decide)
          exact x_pi (by first | (rw [sp_reading, if_pos c_5, if_pos c_12, if_pos c_19, if_pos (by rw [hR0.f5, c_36]; rfl)]; done) | (rw [sp_reading, if_pos c_5, if_pos c_12, if_pos c_19, if_pos (by rw [hR0.f5, c_36]; rfl)]; rfl)) X hr hlk hS dX0_reading_43 (RX.o hP hR ho (hO.at hS) (fun i hi => by first | rfl | simp (disch := omega) only [mdS_row, mdI_out, upRn] | (simp (disch := omega) only [mdS_row, mdI_out, upRn, *])) rfl rfl rfl)
      · refine lv_aload_n X.1 X.2.1 dX0_reading_22 rfl (lv_at hl 0 rfl) ?_
        refine x_cWi (x_runV X hN hP (As := []) (rest := []) (x_X0_bad l dC dI dA n ξ V V2 im ab be) xkv_X0_110 (x_recv (ci := 0) X.2.2.2.2.2 hP (j := 0) (by decide) (xe_x0 ..) rfl) rfl rfl ⟨Nat.le_of_ble_eq_true rfl, Nat.le_of_ble_eq_true rfl⟩ hl.1 (Nat.le_of_ble_eq_true rfl) dX0_reading_23 ⟨Nat.le_of_ble_eq_true rfl, Nat.le_of_ble_eq_true rfl⟩) hS (fun _ h => h) (fun _ h => h) (fun r23 _ H locs hr1 hP1 hz1 hk1 hS => ?_)
        subst hr1
        have hP := hP1
        have hR := hR.cg (S' := fun i_ => (mdS ξ 89 0 (ξ 89 0 + nI 1)) (1 + i_)) (fun i hi => by first | rfl | simp (disch := omega) only [mdS_row, mdI_out, upRn] | (simp (disch := omega) only [mdS_row, mdI_out, upRn, *])) (fun _ _ => rfl)
        have ho := oR.b (k := 0) ho (by decide)
        exact x_pi (by first | (rw [sp_reading, if_neg (rv_nf c_5)]; done) | (rw [sp_reading, if_neg (rv_nf c_5)]; rfl) | (rw [sp_reading, if_pos c_5, if_neg (rv_nf c_12)]; done) | (rw [sp_reading, if_pos c_5, if_neg (rv_nf c_12)]; rfl) | (rw [sp_reading, if_pos c_5, if_pos c_12, if_neg (rv_nf c_19)]; done) | (rw [sp_reading, if_pos c_5, if_pos c_12, if_neg (rv_nf c_19)]; rfl)) X hr hlk hS dX0_reading_26 (RX.o hP hR ho (hO.at hS) (fun i hi => by first | rfl | simp (disch := omega) only [mdS_row, mdI_out, upRn] | (simp (disch := omega) only [mdS_row, mdI_out, upRn, *])) rfl rfl rfl)
