set_option maxRecDepth 100000
/-! the component: those who come -/
/-- who came: nothing else is changed -/
def xCome (ξ : mdT) (f : Nat → Int32) (many rent : Nat) (ei who : Int32) (u : mdT) : Prop := (∀ i, i ≠ 0 → u i = ξ i) ∧ u 0 0 = ξ 0 0 ∧ u 0 1 = (rv_comeN f many rent ei who).2.1 ∧ u 0 2 = (rv_comeN f many rent ei who).2.2
set_option maxHeartbeats 4000000 in
theorem x_X0_comes (l : Launch) (dC : Nat → ClassId) (dI : Nat → Nat → Nat) (dA : Nat → ClassId) (n : Nat) (ξ : mdT) (V : Nat → Option Nat) (V2 : Nat → Option Nat) (im : Nat → Option Nat) (ab : Int64) (be : Int64) (who : Int32) (ei : Int32) (c : Nat) (many : Nat) (rent : Nat) (rd : Nat) (un : Nat) (hs : Nat) (ev : Nat) (f : Nat → Int32) (hR : shR c many rent rd un hs ev f (fun i_ => ξ (1 + i_))) (T : Nat → Prop) : Met l yX0_comes (ws_ yX0_comes cX0_comes 8 none) { frames := 5, cells := 0, slots := 0, locals := 300 } (xPc dC dI dA (fun H => (bkP dC dI n 96 (xE dA n ξ V V2 im ab be) H) ∧ (shV dC dI T many f V H) ∧ (∀ a_, T a_ → a_ < H.size ∧ ¬ bkA n 96 a_)) [.ref n, .int who, .int ei]) (xQv (S := mdT) (fun u => xCome ξ f many rent ei who u) (fun u => (bkP dC dI n 96 (xE dA n u V V2 im ab be))) (bkA n 96)) 0 0 (bkA n 96) := by
  refine x_in (by decide) rfl (Nat.le_of_ble_eq_true rfl) (lv := [(0, .ref n), (1, .int who), (2, .int ei)]) rfl ?_
  intro p e s m below meth c_ X hN hnm hr hlk hP ls hl
  obtain ⟨hP, hV, hT⟩ := hP
  have hm := hR.m6
  have hr6 := hR.r6
  have hd6 := hR.d6
  have hu8 := hR.u8
  have hs12 := hR.h12
  have hS : va_S (bkA n 96) s.heap s.heap [] := va_S.rf
  have K15 : ∀ (k15_ : Nat) (us : Int32) (r : Nat) (ξ1 : mdT) (H : Heap) (locs : List Loc), rent - r = k15_ → (r ≤ rent) → (∀ i, i ≠ 0 → ξ1 i = ξ i) → (ξ1 0 0 = ξ 0 0) → (ξ1 0 1 = (rv_come (fun v r => rv_suitN f v r ei) (fun v => rv_cost (f (7 + 6 * v)) (f (7 + 6 * v + 2))) (bt who) many r).2.1) → (ξ1 0 2 = (rv_come (fun v r => rv_suitN f v r ei) (fun v => rv_cost (f (7 + 6 * v)) (f (7 + 6 * v + 2))) (bt who) many r).2.2) → (∀ v, v < many → bt us v = !(rv_come (fun v r => rv_suitN f v r ei) (fun v => rv_cost (f (7 + 6 * v)) (f (7 + 6 * v + 2))) (bt who) many r).1 v) → bkP dC dI n 96 (xE dA n ξ1 V V2 im ab be) H → va_S (bkA n 96) s.heap H locs → ∀ ls, lv_has ls 8 [(0, .ref n), (1, .int who), (2, .int ei), (3, .int us), (4, .int (nI r))] → W p l e { frames := 5, cells := 0, slots := 0, locals := 300 } s m [.ref n, .int who, .int ei].toArray below meth c_ H locs 0 0 (MQ below (xQv (S := mdT) (fun u => xCome ξ f many rent ei who u) (fun u => (bkP dC dI n 96 (xE dA n u V V2 im ab be))) (bkA n 96)) [.ref n, .int who, .int ei].toArray s 0 0 (bkA n 96)) (F0 m 15 ls []) := by
    intro k15_
    induction k15_ using Nat.strongRecOn with
    | _ k15_ ih15 =>
      intro us r ξ1 H locs hm15_ hr_ hq h00 h3 h4_ hus hP hS ls hl
      have hR := hR.cg (S' := fun i_ => ξ1 (1 + i_)) (fun i hi => hq (1 + i) (by omega)) (fun _ _ => rfl)
      have K141 : ∀ (b_ : Int32), (r < rent) → (b_ = rv_best1 (fun v => (rv_come (fun v r => rv_suitN f v r ei) (fun v => rv_cost (f (7 + 6 * v)) (f (7 + 6 * v + 2))) (bt who) many r).1 v && rv_suitN f v r ei) (fun v => rv_cost (f (7 + 6 * v)) (f (7 + 6 * v + 2))) many (bt who r)) → ∀ ls, lv_has ls 8 [(0, .ref n), (1, .int who), (2, .int ei), (3, .int us), (4, .int (nI r)), (5, .int b_)] → W p l e { frames := 5, cells := 0, slots := 0, locals := 300 } s m [.ref n, .int who, .int ei].toArray below meth c_ H locs 0 0 (MQ below (xQv (S := mdT) (fun u => xCome ξ f many rent ei who u) (fun u => (bkP dC dI n 96 (xE dA n u V V2 im ab be))) (bkA n 96)) [.ref n, .int who, .int ei].toArray s 0 0 (bkA n 96)) (F0 m 141 ls []) := by
        intro b_ hrh hb_ ls hl
        refine lv_iload X.1 X.2.1 dX0_comes_141 (lv_at hl 5 rfl) ?_
        refine lv_iconst (v := (-1)) X.1 X.2.1 dX0_comes_143 rfl ?_
        refine lv_icmp_eq (tgt := 186) X.1 X.2.1 dX0_comes_144 (by decide) (fun (c_144 : b_ = (-1)) => ?_) (fun (c_144 : ¬ b_ = (-1)) => ?_)
        · refine rn_iinc (lv' := [(4, .int (nI (r + 1))), (0, .ref n), (1, .int who), (2, .int ei), (3, .int us), (5, .int b_)]) X.1 X.2.1 dX0_comes_186 hl (k := 4) rfl (by decide) rfl (fun ls hl => ?_)
          refine lv_goto (tgt := 15) X.1 X.2.1 dX0_comes_189 (by decide) ?_
          exact ih15 _ (by omega) us (r + 1) ξ1 _ _ rfl (by omega) (fun i h => by first | exact hq i h | (rw [mdS_row _ _ _ h, mdS_row _ _ _ h]; exact hq i h)) (by first | exact h00 | (rw [mdS_ne (by decide), mdS_ne (by decide)]; exact h00)) (by first | (rw [rv_come, ← hb_, if_pos c_144]; exact h3) | (rw [rv_come, ← hb_, if_neg c_144, mdS_ne (by decide), mdS_eq, h3])) (by first | (rw [rv_come, ← hb_, if_pos c_144]; exact h4_) | (rw [rv_come, ← hb_, if_neg c_144, mdS_eq, mdS_ne (by decide), h4_, hjb, rv_cln (by omega)])) (fun v h => by first | (rw [rv_come, ← hb_, if_pos c_144]; exact hus v h) | (rw [rv_come, ← hb_, if_neg c_144, b_or, b_bit (show jb < 32 by omega) (by omega), hus v h, hjb, rv_cln (by omega)]; simp)) hP hS ls (lv_sub hl [1, 2, 3, 4, 0] rfl)
        · obtain ⟨jb, hjb1, hjb⟩ := rv_best1_ne (fun z => c_144 (hb_.trans z))
          rw [← hb_] at hjb
          refine lv_iload_n X.1 X.2.1 dX0_comes_147 rfl (lv_at hl 3 rfl) ?_
          refine lv_iconst (v := nI 1) X.1 X.2.1 dX0_comes_148 rfl ?_
          refine lv_iload X.1 X.2.1 dX0_comes_149 (lv_at hl 5 rfl) ?_
          refine rn_co (y := nI jb) hjb ?_
          refine lv_ishl X.1 X.2.1 dX0_comes_151 ?_
          refine lv_ior X.1 X.2.1 dX0_comes_152 ?_
          refine lv_istore_n (lv' := [(3, .int (us ||| (1 <<< ((nI jb) &&& 31)))), (0, .ref n), (1, .int who), (2, .int ei), (4, .int (nI r)), (5, .int b_)]) X.1 X.2.1 dX0_comes_153 rfl hl (by decide) rfl (fun ls hl => ?_)
          refine lv_aload_n X.1 X.2.1 dX0_comes_154 rfl (lv_at hl 1 rfl) ?_
          refine lv_dup X.1 X.2.1 dX0_comes_155 rfl ?_
          refine xb_get (C := RX0) (T := TX0) (v := .int (ξ1 0 1)) X in_X0 (ci := 0) rfl hP (j := 0) (by decide) (xe_x0 ..) 10 (by decide) q261 rfl rfl dX0_comes_156 ?_
          refine lv_iconst (v := nI 1) X.1 X.2.1 dX0_comes_159 rfl ?_
          refine lv_iadd X.1 X.2.1 dX0_comes_160 ?_
          refine xb_put (C := RX0) (T := TX0) (E' := xE dA n (mdS ξ1 0 1 ((ξ1 0 1) + 1)) V V2 im ab be) X in_X0 tyX0 tyX0_ok nmX0 (ci := 0) rfl hP (fun _ h => h) hS (j := 0) (by decide) (xe_x0 ..) 10 (by decide) q261 rfl rfl rfl rfl rfl (Nat.le_of_ble_eq_true rfl) (fun i_ _ => xE_S dA n ξ1 V V2 im ab be 0 1 ((ξ1 0 1) + 1) i_) dX0_comes_161 (fun H locs hP hS => ?_)
          have hR := xR_S hR (j := 0) (k := 1) (v := (ξ1 0 1) + 1) (by decide)
          refine lv_aload_n X.1 X.2.1 dX0_comes_164 rfl (lv_at hl 1 rfl) ?_
          refine lv_dup X.1 X.2.1 dX0_comes_165 rfl ?_
          refine xb_get (C := RX0) (T := TX0) (v := .int ((mdS ξ1 0 1 ((ξ1 0 1) + 1)) 0 2)) X in_X0 (ci := 0) rfl hP (j := 0) (by decide) (xe_x0 ..) 11 (by decide) q262 rfl rfl dX0_comes_166 ?_
          refine lv_aload_n X.1 X.2.1 dX0_comes_169 rfl (lv_at hl 1 rfl) ?_
          refine xb_get (C := RX0) (T := TX0) (v := .ref (n + 1)) X in_X0 (ci := 0) rfl hP (j := 0) (by decide) (xe_x0 ..) 0 (by decide) q248 rfl rfl dX0_comes_170 ?_
          refine xb_getN (host := "RentedViews") (C := RX1) (T := TX1) (v := .ref (n + 2)) X in_X1 (ci := 1) rfl hP (j := 1) (by decide) (xe_x1 ..) 0 (by decide) (x_nest hN q139 rfl) rfl rfl dX0_comes_173 ?_
          refine lv_iload X.1 X.2.1 dX0_comes_176 (lv_at hl 5 rfl) ?_
          refine rn_co (y := nI jb) hjb ?_
          obtain ⟨a178, kd178, hVa178, hTa178, hk178, hf178, hv178⟩ := hV.2 jb (by omega)
          refine xb_aald X hP (j := 2) (by decide) (t := 3) (C := RX6) (f := V) rfl rfl (by omega) (by decide) dX0_comes_178 ?_
          refine x_vq hVa178 ?_
          refine vd_X0_lets X hN hk178 (vw_at hv178 hS (hT _ hTa178)) (rest := [.int ((mdS ξ1 0 1 ((ξ1 0 1) + 1)) 0 2), .ref n]) ⟨Nat.le_of_ble_eq_true rfl, Nat.le_of_ble_eq_true rfl⟩ hl.1 (Nat.le_of_ble_eq_true rfl) dX0_comes_179 ⟨Nat.le_of_ble_eq_true rfl, Nat.le_of_ble_eq_true rfl⟩ ?_
          refine rn_co (y := rv_cost (f (7 + 6 * jb)) (f (7 + 6 * jb + 2))) (by rw [hf178]) ?_
          refine lv_iadd X.1 X.2.1 dX0_comes_182 ?_
          refine xb_put (C := RX0) (T := TX0) (E' := xE dA n (mdS (mdS ξ1 0 1 ((ξ1 0 1) + 1)) 0 2 (((mdS ξ1 0 1 ((ξ1 0 1) + 1)) 0 2) + (rv_cost (f (7 + 6 * jb)) (f (7 + 6 * jb + 2))))) V V2 im ab be) X in_X0 tyX0 tyX0_ok nmX0 (ci := 0) rfl hP (fun _ h => h) hS (j := 0) (by decide) (xe_x0 ..) 11 (by decide) q262 rfl rfl rfl rfl rfl (Nat.le_of_ble_eq_true rfl) (fun i_ _ => xE_S dA n (mdS ξ1 0 1 ((ξ1 0 1) + 1)) V V2 im ab be 0 2 (((mdS ξ1 0 1 ((ξ1 0 1) + 1)) 0 2) + (rv_cost (f (7 + 6 * jb)) (f (7 + 6 * jb + 2)))) i_) dX0_comes_183 (fun H locs hP hS => ?_)
          have hR := xR_S hR (j := 0) (k := 2) (v := ((mdS ξ1 0 1 ((ξ1 0 1) + 1)) 0 2) + (rv_cost (f (7 + 6 * jb)) (f (7 + 6 * jb + 2)))) (by decide)
          refine rn_iinc (lv' := [(4, .int (nI (r + 1))), (3, .int (us ||| (1 <<< ((nI jb) &&& 31)))), (0, .ref n), (1, .int who), (2, .int ei), (5, .int b_)]) X.1 X.2.1 dX0_comes_186 hl (k := 4) rfl (by decide) rfl (fun ls hl => ?_)
          refine lv_goto (tgt := 15) X.1 X.2.1 dX0_comes_189 (by decide) ?_
          exact ih15 _ (by omega) (us ||| (1 <<< ((nI jb) &&& 31))) (r + 1) (mdS (mdS ξ1 0 1 ((ξ1 0 1) + 1)) 0 2 (((mdS ξ1 0 1 ((ξ1 0 1) + 1)) 0 2) + (rv_cost (f (7 + 6 * jb)) (f (7 + 6 * jb + 2))))) _ _ rfl (by omega) (fun i h => by first | exact hq i h | (rw [mdS_row _ _ _ h, mdS_row _ _ _ h]; exact hq i h)) (by first | exact h00 | (rw [mdS_ne (by decide), mdS_ne (by decide)]; exact h00)) (by first | (rw [rv_come, ← hb_, if_pos c_144]; exact h3) | (rw [rv_come, ← hb_, if_neg c_144, mdS_ne (by decide), mdS_eq, h3])) (by first | (rw [rv_come, ← hb_, if_pos c_144]; exact h4_) | (rw [rv_come, ← hb_, if_neg c_144, mdS_eq, mdS_ne (by decide), h4_, hjb, rv_cln (by omega)])) (fun v h => by first | (rw [rv_come, ← hb_, if_pos c_144]; exact hus v h) | (rw [rv_come, ← hb_, if_neg c_144, b_or, b_bit (show jb < 32 by omega) (by omega), hus v h, hjb, rv_cln (by omega)]; simp)) hP hS ls (lv_sub hl [2, 3, 4, 1, 0] rfl)
      have K33 : ∀ (k33_ : Nat) (b_ : Int32) (i : Nat), many - i = k33_ → (r < rent) → (i ≤ many) → (bt who r = true ∨ i = 0) → (b_ = rv_pick (fun v => (rv_come (fun v r => rv_suitN f v r ei) (fun v => rv_cost (f (7 + 6 * v)) (f (7 + 6 * v + 2))) (bt who) many r).1 v && rv_suitN f v r ei) (fun v => rv_cost (f (7 + 6 * v)) (f (7 + 6 * v + 2))) i) → ∀ ls, lv_has ls 8 [(0, .ref n), (1, .int who), (2, .int ei), (3, .int us), (4, .int (nI r)), (5, .int b_), (6, .int (nI i))] → W p l e { frames := 5, cells := 0, slots := 0, locals := 300 } s m [.ref n, .int who, .int ei].toArray below meth c_ H locs 0 0 (MQ below (xQv (S := mdT) (fun u => xCome ξ f many rent ei who u) (fun u => (bkP dC dI n 96 (xE dA n u V V2 im ab be))) (bkA n 96)) [.ref n, .int who, .int ei].toArray s 0 0 (bkA n 96)) (F0 m 33 ls []) := by
        intro k33_
        induction k33_ using Nat.strongRecOn with
        | _ k33_ ih33 =>
          intro b_ i hm33_ hrh hi hw hb_ ls hl
          refine lv_iload X.1 X.2.1 dX0_comes_33 (lv_at hl 6 rfl) ?_
          refine lv_aload_n X.1 X.2.1 dX0_comes_35 rfl (lv_at hl 0 rfl) ?_
          refine xb_get (C := RX0) (T := TX0) (v := .ref (n + 1)) X in_X0 (ci := 0) rfl hP (j := 0) (by decide) (xe_x0 ..) 0 (by decide) q248 rfl rfl dX0_comes_36 ?_
          refine xb_getN (host := "RentedViews") (C := RX1) (T := TX1) (v := .int (ξ1 1 0)) X in_X1 (ci := 1) rfl hP (j := 1) (by decide) (xe_x1 ..) 2 (by decide) (x_nest hN q145 rfl) rfl rfl dX0_comes_39 ?_
          refine rn_co (y := nI many) hR.nm ?_
          refine rn_icmp_ge (tgt := 141) X.1 X.2.1 (by omega) (by omega) dX0_comes_42 (by decide) (fun c_42 => ?_) (fun c_42 => ?_)
          · exact K141 b_ hrh (by have ei_ : i = many := (by omega); rw [rv_best1]; rcases hw with hw | hw; rw [if_pos hw, hb_, ei_]; rw [hw] at ei_; rw [hb_, hw, ← ei_]; split <;> rfl) ls (lv_sub hl [0, 1, 2, 3, 4, 5] rfl)
          · refine lv_iload_n X.1 X.2.1 dX0_comes_45 rfl (lv_at hl 1 rfl) ?_
            refine lv_iload X.1 X.2.1 dX0_comes_46 (lv_at hl 4 rfl) ?_
            refine lv_ishr X.1 X.2.1 dX0_comes_48 ?_
            refine lv_iconst (v := nI 1) X.1 X.2.1 dX0_comes_49 rfl ?_
            refine lv_iand X.1 X.2.1 dX0_comes_50 ?_
            refine lv_iconst (v := nI 1) X.1 X.2.1 dX0_comes_51 rfl ?_
            refine lv_icmp_ne (tgt := 141) X.1 X.2.1 dX0_comes_52 (by decide) (fun (c_52 : ¬ (who >>> ((nI r) &&& 31)) &&& 1 = 1) => ?_) (fun (c_52 : (who >>> ((nI r) &&& 31)) &&& 1 = 1) => ?_)
            · exact K141 b_ hrh (by have hz : bt who r = false := (Bool.not_eq_true _).mp (fun z => c_52 ((b_low1 (by omega)).mpr z)); rw [rv_best1, if_neg (rv_nf hz), hb_]; rcases hw with hw | hw; rw [hz] at hw; exact absurd hw (by decide); rw [hw]; rfl) ls (lv_sub hl [0, 1, 2, 3, 4, 5] rfl)
            · refine lv_iload_n X.1 X.2.1 dX0_comes_55 rfl (lv_at hl 3 rfl) ?_
              refine lv_iload X.1 X.2.1 dX0_comes_56 (lv_at hl 6 rfl) ?_
              refine lv_ishr X.1 X.2.1 dX0_comes_58 ?_
              refine lv_iconst (v := nI 1) X.1 X.2.1 dX0_comes_59 rfl ?_
              refine lv_iand X.1 X.2.1 dX0_comes_60 ?_
              refine lv_if_ne (tgt := 83) X.1 X.2.1 dX0_comes_61 (by decide) (fun (c_61 : ¬ (us >>> ((nI i) &&& 31)) &&& 1 = 0) => ?_) (fun (c_61 : (us >>> ((nI i) &&& 31)) &&& 1 = 0) => ?_)
              · have hM : (fun v => (rv_come (fun v r => rv_suitN f v r ei) (fun v => rv_cost (f (7 + 6 * v)) (f (7 + 6 * v + 2))) (bt who) many r).1 v && rv_suitN f v r ei) i = false := by
                  show ((rv_come (fun v r => rv_suitN f v r ei) (fun v => rv_cost (f (7 + 6 * v)) (f (7 + 6 * v + 2))) (bt who) many r).1 i && rv_suitN f i r ei) = false
                  first
                  | (rw [c_76, Bool.and_false]; done)
                  | (have h := fun z => c_61 ((b_low0 (show i < 32 by omega)).mpr z); rw [hus i (by omega)] at h; simp at h; rw [h]; rfl)
                refine lv_iconst (v := nI 0) X.1 X.2.1 dX0_comes_83 rfl ?_
                refine lv_istore (lv' := [(7, .int (nI 0)), (0, .ref n), (1, .int who), (2, .int ei), (3, .int us), (4, .int (nI r)), (5, .int b_), (6, .int (nI i))]) X.1 X.2.1 dX0_comes_84 hl (by decide) rfl (fun ls hl => ?_)
                refine lv_iload X.1 X.2.1 dX0_comes_86 (lv_at hl 0 rfl) ?_
                refine rn_if_eq (tgt := 131) X.1 X.2.1 (by omega) dX0_comes_88 (by decide) (fun c_88 => ?_) (fun c_88 => ?_)
                · refine lv_iload X.1 X.2.1 dX0_comes_131 (lv_at hl 6 rfl) ?_
                  refine lv_istore (lv' := [(5, .int b_), (7, .int (nI 0)), (0, .ref n), (1, .int who), (2, .int ei), (3, .int us), (4, .int (nI r)), (6, .int (nI i))]) X.1 X.2.1 dX0_comes_133 hl (by decide) rfl (fun ls hl => ?_)
                  refine rn_iinc (lv' := [(6, .int (nI (i + 1))), (5, .int b_), (7, .int (nI 0)), (0, .ref n), (1, .int who), (2, .int ei), (3, .int us), (4, .int (nI r))]) X.1 X.2.1 dX0_comes_135 hl (k := 7) rfl (by decide) rfl (fun ls hl => ?_)
                  refine lv_goto (tgt := 33) X.1 X.2.1 dX0_comes_138 (by decide) ?_
                  exact ih33 _ (by omega) b_ (i + 1) rfl hrh (by omega) (Or.inl ((b_low1 (by omega)).mp c_52)) (by first | (rw [rv_pick, if_neg (rv_nf hM), ← hb_]; done) | (rw [rv_pick, if_pos hM, ← hb_, if_pos c_94]; done) | (rw [rv_pick, if_pos hM, ← hb_, if_neg c_94, hjb, rv_cln (by omega)]; first | (rw [if_neg (Int32.not_lt.mpr c_123)]; done) | (rw [if_pos (Int32.not_le.mp c_123)]; done))) ls (lv_sub hl [3, 4, 5, 6, 7, 1, 0] rfl)
                · exact absurd c_88 (by decide)
              · refine lv_aload_n X.1 X.2.1 dX0_comes_64 rfl (lv_at hl 0 rfl) ?_
                refine xb_get (C := RX0) (T := TX0) (v := .ref (n + 1)) X in_X0 (ci := 0) rfl hP (j := 0) (by decide) (xe_x0 ..) 0 (by decide) q248 rfl rfl dX0_comes_65 ?_
                refine lv_iload X.1 X.2.1 dX0_comes_68 (lv_at hl 6 rfl) ?_
                refine lv_iload X.1 X.2.1 dX0_comes_70 (lv_at hl 4 rfl) ?_
                refine lv_iload_n X.1 X.2.1 dX0_comes_72 rfl (lv_at hl 2 rfl) ?_
                refine x_cSe (x_runV X hN ⟨(x_shop hP), (hV.at hS hT)⟩ (As := [.int (nI i), .int (nI r), .int ei]) (rest := []) (x_X1_suits l dC dI dA (n + 1) (fun i_ => ξ1 (1 + i_)) V i r ei c many rent rd un hs ev f hR T (by omega) (by omega)) xkv_X0_247 (x_recv (ci := 1) X.2.2.2.2.2 hP (j := 1) (by decide) (xe_x1 ..) rfl) rfl rfl ⟨Nat.le_of_ble_eq_true rfl, Nat.le_of_ble_eq_true rfl⟩ hl.1 (Nat.le_of_ble_eq_true rfl) dX0_comes_73 ⟨Nat.le_of_ble_eq_true rfl, Nat.le_of_ble_eq_true rfl⟩) ?_
                refine rn_zt (tgt := 83) X.1 X.2.1 dX0_comes_76 (by decide) (fun c_76 => ?_) (fun c_76 => ?_)
                · have hM : (fun v => (rv_come (fun v r => rv_suitN f v r ei) (fun v => rv_cost (f (7 + 6 * v)) (f (7 + 6 * v + 2))) (bt who) many r).1 v && rv_suitN f v r ei) i = false := by
                    show ((rv_come (fun v r => rv_suitN f v r ei) (fun v => rv_cost (f (7 + 6 * v)) (f (7 + 6 * v + 2))) (bt who) many r).1 i && rv_suitN f i r ei) = false
                    first
                    | (rw [c_76, Bool.and_false]; done)
                    | (have h := fun z => c_61 ((b_low0 (show i < 32 by omega)).mpr z); rw [hus i (by omega)] at h; simp at h; rw [h]; rfl)
                  refine lv_iconst (v := nI 0) X.1 X.2.1 dX0_comes_83 rfl ?_
                  refine lv_istore (lv' := [(7, .int (nI 0)), (0, .ref n), (1, .int who), (2, .int ei), (3, .int us), (4, .int (nI r)), (5, .int b_), (6, .int (nI i))]) X.1 X.2.1 dX0_comes_84 hl (by decide) rfl (fun ls hl => ?_)
                  refine lv_iload X.1 X.2.1 dX0_comes_86 (lv_at hl 0 rfl) ?_
                  refine rn_if_eq (tgt := 131) X.1 X.2.1 (by omega) dX0_comes_88 (by decide) (fun c_88 => ?_) (fun c_88 => ?_)
                  · refine lv_iload X.1 X.2.1 dX0_comes_131 (lv_at hl 6 rfl) ?_
                    refine lv_istore (lv' := [(5, .int b_), (7, .int (nI 0)), (0, .ref n), (1, .int who), (2, .int ei), (3, .int us), (4, .int (nI r)), (6, .int (nI i))]) X.1 X.2.1 dX0_comes_133 hl (by decide) rfl (fun ls hl => ?_)
                    refine rn_iinc (lv' := [(6, .int (nI (i + 1))), (5, .int b_), (7, .int (nI 0)), (0, .ref n), (1, .int who), (2, .int ei), (3, .int us), (4, .int (nI r))]) X.1 X.2.1 dX0_comes_135 hl (k := 7) rfl (by decide) rfl (fun ls hl => ?_)
                    refine lv_goto (tgt := 33) X.1 X.2.1 dX0_comes_138 (by decide) ?_
                    exact ih33 _ (by omega) b_ (i + 1) rfl hrh (by omega) (Or.inl ((b_low1 (by omega)).mp c_52)) (by first | (rw [rv_pick, if_neg (rv_nf hM), ← hb_]; done) | (rw [rv_pick, if_pos hM, ← hb_, if_pos c_94]; done) | (rw [rv_pick, if_pos hM, ← hb_, if_neg c_94, hjb, rv_cln (by omega)]; first | (rw [if_neg (Int32.not_lt.mpr c_123)]; done) | (rw [if_pos (Int32.not_le.mp c_123)]; done))) ls (lv_sub hl [3, 4, 5, 6, 7, 1, 0] rfl)
                  · exact absurd c_88 (by decide)
                · have hM : (fun v => (rv_come (fun v r => rv_suitN f v r ei) (fun v => rv_cost (f (7 + 6 * v)) (f (7 + 6 * v + 2))) (bt who) many r).1 v && rv_suitN f v r ei) i = true := by
                    show ((rv_come (fun v r => rv_suitN f v r ei) (fun v => rv_cost (f (7 + 6 * v)) (f (7 + 6 * v + 2))) (bt who) many r).1 i && rv_suitN f i r ei) = true
                    have h := (b_low0 (show i < 32 by omega)).mp c_61
                    rw [hus i (by omega)] at h
                    rw [c_76, Bool.and_true]
                    simpa using h
                  refine lv_iconst (v := nI 1) X.1 X.2.1 dX0_comes_79 rfl ?_
                  refine lv_goto (tgt := 84) X.1 X.2.1 dX0_comes_80 (by decide) ?_
                  refine lv_istore (lv' := [(7, .int (nI 1)), (0, .ref n), (1, .int who), (2, .int ei), (3, .int us), (4, .int (nI r)), (5, .int b_), (6, .int (nI i))]) X.1 X.2.1 dX0_comes_84 hl (by decide) rfl (fun ls hl => ?_)
                  refine lv_iload X.1 X.2.1 dX0_comes_86 (lv_at hl 0 rfl) ?_
                  refine rn_if_eq (tgt := 131) X.1 X.2.1 (by omega) dX0_comes_88 (by decide) (fun c_88 => ?_) (fun c_88 => ?_)
                  · exact absurd c_88 (by decide)
                  · refine lv_iload X.1 X.2.1 dX0_comes_91 (lv_at hl 6 rfl) ?_
                    refine lv_iconst (v := (-1)) X.1 X.2.1 dX0_comes_93 rfl ?_
                    refine lv_icmp_eq (tgt := 126) X.1 X.2.1 dX0_comes_94 (by decide) (fun (c_94 : b_ = (-1)) => ?_) (fun (c_94 : ¬ b_ = (-1)) => ?_)
                    · refine lv_iload X.1 X.2.1 dX0_comes_126 (lv_at hl 7 rfl) ?_
                      refine lv_goto (tgt := 133) X.1 X.2.1 dX0_comes_128 (by decide) ?_
                      refine lv_istore (lv' := [(5, .int (nI i)), (7, .int (nI 1)), (0, .ref n), (1, .int who), (2, .int ei), (3, .int us), (4, .int (nI r)), (6, .int (nI i))]) X.1 X.2.1 dX0_comes_133 hl (by decide) rfl (fun ls hl => ?_)
                      refine rn_iinc (lv' := [(6, .int (nI (i + 1))), (5, .int (nI i)), (7, .int (nI 1)), (0, .ref n), (1, .int who), (2, .int ei), (3, .int us), (4, .int (nI r))]) X.1 X.2.1 dX0_comes_135 hl (k := 7) rfl (by decide) rfl (fun ls hl => ?_)
                      refine lv_goto (tgt := 33) X.1 X.2.1 dX0_comes_138 (by decide) ?_
                      exact ih33 _ (by omega) (nI i) (i + 1) rfl hrh (by omega) (Or.inl ((b_low1 (by omega)).mp c_52)) (by first | (rw [rv_pick, if_neg (rv_nf hM), ← hb_]; done) | (rw [rv_pick, if_pos hM, ← hb_, if_pos c_94]; done) | (rw [rv_pick, if_pos hM, ← hb_, if_neg c_94, hjb, rv_cln (by omega)]; first | (rw [if_neg (Int32.not_lt.mpr c_123)]; done) | (rw [if_pos (Int32.not_le.mp c_123)]; done))) ls (lv_sub hl [3, 4, 5, 6, 7, 1, 0] rfl)
                    · obtain ⟨jb, hjb1, hjb⟩ := rv_pick_ne (fun z => c_94 (hb_.trans z))
                      rw [← hb_] at hjb
                      refine lv_aload_n X.1 X.2.1 dX0_comes_97 rfl (lv_at hl 1 rfl) ?_
                      refine xb_get (C := RX0) (T := TX0) (v := .ref (n + 1)) X in_X0 (ci := 0) rfl hP (j := 0) (by decide) (xe_x0 ..) 0 (by decide) q248 rfl rfl dX0_comes_98 ?_
                      refine xb_getN (host := "RentedViews") (C := RX1) (T := TX1) (v := .ref (n + 2)) X in_X1 (ci := 1) rfl hP (j := 1) (by decide) (xe_x1 ..) 0 (by decide) (x_nest hN q139 rfl) rfl rfl dX0_comes_101 ?_
                      refine lv_iload X.1 X.2.1 dX0_comes_104 (lv_at hl 7 rfl) ?_
                      obtain ⟨a106, kd106, hVa106, hTa106, hk106, hf106, hv106⟩ := hV.2 i (by omega)
                      refine xb_aald X hP (j := 2) (by decide) (t := 3) (C := RX6) (f := V) rfl rfl (by omega) (by decide) dX0_comes_106 ?_
                      refine x_vq hVa106 ?_
                      refine vd_X0_lets X hN hk106 (vw_at hv106 hS (hT _ hTa106)) (rest := []) ⟨Nat.le_of_ble_eq_true rfl, Nat.le_of_ble_eq_true rfl⟩ hl.1 (Nat.le_of_ble_eq_true rfl) dX0_comes_107 ⟨Nat.le_of_ble_eq_true rfl, Nat.le_of_ble_eq_true rfl⟩ ?_
                      refine rn_co (y := rv_cost (f (7 + 6 * i)) (f (7 + 6 * i + 2))) (by rw [hf106]) ?_
                      refine lv_aload_n X.1 X.2.1 dX0_comes_110 rfl (lv_at hl 1 rfl) ?_
                      refine xb_get (C := RX0) (T := TX0) (v := .ref (n + 1)) X in_X0 (ci := 0) rfl hP (j := 0) (by decide) (xe_x0 ..) 0 (by decide) q248 rfl rfl dX0_comes_111 ?_
                      refine xb_getN (host := "RentedViews") (C := RX1) (T := TX1) (v := .ref (n + 2)) X in_X1 (ci := 1) rfl hP (j := 1) (by decide) (xe_x1 ..) 0 (by decide) (x_nest hN q139 rfl) rfl rfl dX0_comes_114 ?_
                      refine lv_iload X.1 X.2.1 dX0_comes_117 (lv_at hl 6 rfl) ?_
                      refine rn_co (y := nI jb) hjb ?_
                      obtain ⟨a119, kd119, hVa119, hTa119, hk119, hf119, hv119⟩ := hV.2 jb (by omega)
                      refine xb_aald X hP (j := 2) (by decide) (t := 3) (C := RX6) (f := V) rfl rfl (by omega) (by decide) dX0_comes_119 ?_
                      refine x_vq hVa119 ?_
                      refine vd_X0_lets X hN hk119 (vw_at hv119 hS (hT _ hTa119)) (rest := [.int (rv_cost (f (7 + 6 * i)) (f (7 + 6 * i + 2)))]) ⟨Nat.le_of_ble_eq_true rfl, Nat.le_of_ble_eq_true rfl⟩ hl.1 (Nat.le_of_ble_eq_true rfl) dX0_comes_120 ⟨Nat.le_of_ble_eq_true rfl, Nat.le_of_ble_eq_true rfl⟩ ?_
                      refine rn_co (y := rv_cost (f (7 + 6 * jb)) (f (7 + 6 * jb + 2))) (by rw [hf119]) ?_
                      refine lv_icmp_le (tgt := 131) X.1 X.2.1 dX0_comes_123 (by decide) (fun (c_123 : rv_cost (f (7 + 6 * i)) (f (7 + 6 * i + 2)) ≤ rv_cost (f (7 + 6 * jb)) (f (7 + 6 * jb + 2))) => ?_) (fun (c_123 : ¬ rv_cost (f (7 + 6 * i)) (f (7 + 6 * i + 2)) ≤ rv_cost (f (7 + 6 * jb)) (f (7 + 6 * jb + 2))) => ?_)
                      · refine lv_iload X.1 X.2.1 dX0_comes_131 (lv_at hl 6 rfl) ?_
                        refine lv_istore (lv' := [(5, .int b_), (7, .int (nI 1)), (0, .ref n), (1, .int who), (2, .int ei), (3, .int us), (4, .int (nI r)), (6, .int (nI i))]) X.1 X.2.1 dX0_comes_133 hl (by decide) rfl (fun ls hl => ?_)
                        refine rn_iinc (lv' := [(6, .int (nI (i + 1))), (5, .int b_), (7, .int (nI 1)), (0, .ref n), (1, .int who), (2, .int ei), (3, .int us), (4, .int (nI r))]) X.1 X.2.1 dX0_comes_135 hl (k := 7) rfl (by decide) rfl (fun ls hl => ?_)
                        refine lv_goto (tgt := 33) X.1 X.2.1 dX0_comes_138 (by decide) ?_
                        exact ih33 _ (by omega) b_ (i + 1) rfl hrh (by omega) (Or.inl ((b_low1 (by omega)).mp c_52)) (by first | (rw [rv_pick, if_neg (rv_nf hM), ← hb_]; done) | (rw [rv_pick, if_pos hM, ← hb_, if_pos c_94]; done) | (rw [rv_pick, if_pos hM, ← hb_, if_neg c_94, hjb, rv_cln (by omega)]; first | (rw [if_neg (Int32.not_lt.mpr c_123)]; done) | (rw [if_pos (Int32.not_le.mp c_123)]; done))) ls (lv_sub hl [3, 4, 5, 6, 7, 1, 0] rfl)
                      · refine lv_iload X.1 X.2.1 dX0_comes_126 (lv_at hl 7 rfl) ?_
                        refine lv_goto (tgt := 133) X.1 X.2.1 dX0_comes_128 (by decide) ?_
                        refine lv_istore (lv' := [(5, .int (nI i)), (7, .int (nI 1)), (0, .ref n), (1, .int who), (2, .int ei), (3, .int us), (4, .int (nI r)), (6, .int (nI i))]) X.1 X.2.1 dX0_comes_133 hl (by decide) rfl (fun ls hl => ?_)
                        refine rn_iinc (lv' := [(6, .int (nI (i + 1))), (5, .int (nI i)), (7, .int (nI 1)), (0, .ref n), (1, .int who), (2, .int ei), (3, .int us), (4, .int (nI r))]) X.1 X.2.1 dX0_comes_135 hl (k := 7) rfl (by decide) rfl (fun ls hl => ?_)
                        refine lv_goto (tgt := 33) X.1 X.2.1 dX0_comes_138 (by decide) ?_
                        exact ih33 _ (by omega) (nI i) (i + 1) rfl hrh (by omega) (Or.inl ((b_low1 (by omega)).mp c_52)) (by first | (rw [rv_pick, if_neg (rv_nf hM), ← hb_]; done) | (rw [rv_pick, if_pos hM, ← hb_, if_pos c_94]; done) | (rw [rv_pick, if_pos hM, ← hb_, if_neg c_94, hjb, rv_cln (by omega)]; first | (rw [if_neg (Int32.not_lt.mpr c_123)]; done) | (rw [if_pos (Int32.not_le.mp c_123)]; done))) ls (lv_sub hl [3, 4, 5, 6, 7, 1, 0] rfl)
      refine lv_iload X.1 X.2.1 dX0_comes_15 (lv_at hl 4 rfl) ?_
      refine lv_aload_n X.1 X.2.1 dX0_comes_17 rfl (lv_at hl 0 rfl) ?_
      refine xb_get (C := RX0) (T := TX0) (v := .ref (n + 1)) X in_X0 (ci := 0) rfl hP (j := 0) (by decide) (xe_x0 ..) 0 (by decide) q248 rfl rfl dX0_comes_18 ?_
      refine xb_getN (host := "RentedViews") (C := RX1) (T := TX1) (v := .int (ξ1 1 1)) X in_X1 (ci := 1) rfl hP (j := 1) (by decide) (xe_x1 ..) 5 (by decide) (x_nest hN q154 rfl) rfl rfl dX0_comes_21 ?_
      refine rn_co (y := nI rent) hR.nr ?_
      refine rn_icmp_ge (tgt := 192) X.1 X.2.1 (by omega) (by omega) dX0_comes_24 (by decide) (fun c_24 => ?_) (fun c_24 => ?_)
      · exact x_rv ξ1 X hr hlk hS dX0_comes_192 (by have er : r = rent := (by omega); subst er; exact ⟨hq, h00, h3, h4_⟩) hP
      · refine lv_iconst (v := (-1)) X.1 X.2.1 dX0_comes_27 rfl ?_
        refine lv_istore (lv' := [(5, .int (-1)), (0, .ref n), (1, .int who), (2, .int ei), (3, .int us), (4, .int (nI r))]) X.1 X.2.1 dX0_comes_28 hl (by decide) rfl (fun ls hl => ?_)
        refine lv_iconst (v := nI 0) X.1 X.2.1 dX0_comes_30 rfl ?_
        refine lv_istore (lv' := [(6, .int (nI 0)), (5, .int (-1)), (0, .ref n), (1, .int who), (2, .int ei), (3, .int us), (4, .int (nI r))]) X.1 X.2.1 dX0_comes_31 hl (by decide) rfl (fun ls hl => ?_)
        exact K33 _ (-1) 0 rfl c_24 (by omega) (Or.inr rfl) rfl ls (lv_sub hl [2, 3, 4, 5, 6, 1, 0] rfl)
  refine lv_aload_n X.1 X.2.1 dX0_comes_0 rfl (lv_at hl 0 rfl) ?_
  refine lv_iconst (v := nI 0) X.1 X.2.1 dX0_comes_1 rfl ?_
  refine xb_put (C := RX0) (T := TX0) (E' := xE dA n (mdS ξ 0 1 (nI 0)) V V2 im ab be) X in_X0 tyX0 tyX0_ok nmX0 (ci := 0) rfl hP (fun _ h => h) hS (j := 0) (by decide) (xe_x0 ..) 10 (by decide) q261 rfl rfl rfl rfl rfl (Nat.le_of_ble_eq_true rfl) (fun i_ _ => xE_S dA n ξ V V2 im ab be 0 1 (nI 0) i_) dX0_comes_2 (fun H locs hP hS => ?_)
  have hR := xR_S hR (j := 0) (k := 1) (v := nI 0) (by decide)
  refine lv_aload_n X.1 X.2.1 dX0_comes_5 rfl (lv_at hl 0 rfl) ?_
  refine lv_iconst (v := nI 0) X.1 X.2.1 dX0_comes_6 rfl ?_
  refine xb_put (C := RX0) (T := TX0) (E' := xE dA n (mdS (mdS ξ 0 1 (nI 0)) 0 2 (nI 0)) V V2 im ab be) X in_X0 tyX0 tyX0_ok nmX0 (ci := 0) rfl hP (fun _ h => h) hS (j := 0) (by decide) (xe_x0 ..) 11 (by decide) q262 rfl rfl rfl rfl rfl (Nat.le_of_ble_eq_true rfl) (fun i_ _ => xE_S dA n (mdS ξ 0 1 (nI 0)) V V2 im ab be 0 2 (nI 0) i_) dX0_comes_7 (fun H locs hP hS => ?_)
  have hR := xR_S hR (j := 0) (k := 2) (v := nI 0) (by decide)
  refine lv_iconst (v := nI 0) X.1 X.2.1 dX0_comes_10 rfl ?_
  refine lv_istore_n (lv' := [(3, .int (nI 0)), (0, .ref n), (1, .int who), (2, .int ei)]) X.1 X.2.1 dX0_comes_11 rfl hl (by decide) rfl (fun ls hl => ?_)
  refine lv_iconst (v := nI 0) X.1 X.2.1 dX0_comes_12 rfl ?_
  refine lv_istore (lv' := [(4, .int (nI 0)), (3, .int (nI 0)), (0, .ref n), (1, .int who), (2, .int ei)]) X.1 X.2.1 dX0_comes_13 hl (by decide) rfl (fun ls hl => ?_)
  exact K15 _ (nI 0) 0 (mdS (mdS ξ 0 1 (nI 0)) 0 2 (nI 0)) _ _ rfl (by omega) (fun i h => by rw [mdS_row _ _ _ h, mdS_row _ _ _ h]) (by rw [mdS_ne (by decide), mdS_ne (by decide)]) (by rw [mdS_ne (by decide), mdS_eq]; rfl) (by rw [mdS_eq]; rfl) (fun v h => by show bt (nI 0) v = !true; rw [nI_0, b_0]; rfl) hP hS ls (lv_sub hl [2, 3, 4, 1, 0] rfl)
