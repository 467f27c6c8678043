set_option maxRecDepth 100000
/-! the component: odds, draws, digest -/
theorem xks_X0_310 : xKS RX0 yX0_divisor cX0_divisor 10 (some .long) 310 2 := ⟨q842, q843, q61, q844, by decide +kernel⟩
section XPO
variable {p : Program} {l : Launch} {e : Env} {R : Room} {s : State} {m : MethodId} {args : Array Value} {below : List Frame} {meth : Method} {c_ : Code} {H : Heap} {locs : List Loc} {cells slots mc ms : Nat} {Q : State → Prop}
variable {cc : ByteArray} {pc nL : Nat} {ls : Array Slot} {dC : Nat → ClassId} {dI : Nat → Nat → Nat} {dA : Nat → ClassId} {own : String} {A : Nat → Prop}
theorem x_po {q : Int32 × mdT × Int64 × Int64} {v : Int32} {σ' : mdT} {c n : Nat} {ab be : Int64} (hq : q = (v, σ', ab, be)) (X : xC dC dI dA p s m c_ args cc nL own) (hr : meth.sig.returnType = some .int) (hlk : meth.locks = false) (hS : va_S A s.heap H locs) (hdg : decode cc pc = .ok (.ireturn, 1)) (hP : RX dC dI dA c n σ' ab be H) : W p l e R s m args below meth c_ H locs cells slots (MQ below (xQi (S := Unit) (fun r _ => r = q.1) (fun _ => RX dC dI dA c n q.2.1 q.2.2.1 q.2.2.2) A) args s cells slots A) (F0 m pc ls [.int v]) := by
  subst hq
  exact x_ri () X hr hlk hS hdg rfl hP
end XPO
theorem rv_sum6 (g : Nat → Int32) (h : Int64) (i : Nat) : rv_sum (fun k => g (7 + k)) h (6 * (i + 1)) = 31 * (31 * (31 * (31 * (31 * (31 * rv_sum (fun k => g (7 + k)) h (6 * i) + (g (7 + 6 * i)).toInt64) + (g (7 + 6 * i + 1)).toInt64) + (g (7 + 6 * i + 2)).toInt64) + (g (7 + 6 * i + 3)).toInt64) + (g (7 + 6 * i + 4)).toInt64) + (g (7 + 6 * i + 5)).toInt64 := by
  rw [show 6 * (i + 1) = 6 * i + 1 + 1 + 1 + 1 + 1 + 1 by omega]
  simp only [rv_sum]
  rw [show 7 + (6 * i + 1) = 7 + 6 * i + 1 by omega, show 7 + (6 * i + 1 + 1) = 7 + 6 * i + 2 by omega, show 7 + (6 * i + 1 + 1 + 1) = 7 + 6 * i + 3 by omega, show 7 + (6 * i + 1 + 1 + 1 + 1) = 7 + 6 * i + 4 by omega, show 7 + (6 * i + 1 + 1 + 1 + 1 + 1) = 7 + 6 * i + 5 by omega]
theorem rv_sum3 (g : Nat → Int32) (h : Int64) (i : Nat) : rv_sum (fun k => g (43 + k)) h (3 * (i + 1)) = 31 * (31 * (31 * rv_sum (fun k => g (43 + k)) h (3 * i) + (g (43 + 3 * i)).toInt64) + (g (43 + 3 * i + 1)).toInt64) + (g (43 + 3 * i + 2)).toInt64 := by
  rw [show 3 * (i + 1) = 3 * i + 1 + 1 + 1 by omega]
  simp only [rv_sum]
  rw [show 43 + (3 * i + 1) = 43 + 3 * i + 1 by omega, show 43 + (3 * i + 1 + 1) = 43 + 3 * i + 2 by omega]
set_option maxHeartbeats 4000000 in
theorem x_X0_odds (l : Launch) (dC : Nat → ClassId) (dI : Nat → Nat → Nat) (dA : Nat → ClassId) (n c : Nat) (σ : mdT) (ab be : Int64) (o : Int32) : Met l yX0_odds (ws_ yX0_odds cX0_odds 10 (some .int)) { frames := 6, cells := 0, slots := 0, locals := 360 } (xPc dC dI dA (RX dC dI dA c n σ ab be) [.ref n, .int o]) (xQi (S := Unit) (fun r_ _ => r_ = (sp_odds σ ab be o).1) (fun _ => (RX dC dI dA c n (sp_odds σ ab be o).2.1 (sp_odds σ ab be o).2.2.1 (sp_odds σ ab be o).2.2.2)) (bkA n 96)) 0 0 (bkA n 96) := by
  refine x_in (by decide) rfl (Nat.le_of_ble_eq_true rfl) (lv := [(0, .ref n), (1, .int o)]) rfl ?_
  intro p e s m below meth c_ X hN hnm hr hlk hP ls hl
  obtain ⟨T, ξ, V, V2, im, many, rent, rd, un, hs, ev, ty, hP, hR, ho, hO⟩ := hP
  have ho0 := ho
  have hR0 := hR
  have hV := hO.1
  have hT := hO.tb
  have hm := hR.m6
  have hr6 := hR.r6
  have hd6 := hR.d6
  have hu8 := hR.u8
  have hs12 := hR.h12
  have hS : va_S (bkA n 96) s.heap s.heap [] := va_S.rf
  have hp1 : 1 ≤ 2 ^ rent := Nat.one_le_two_pow
  have hp6 : 2 ^ rent ≤ 2 ^ 6 := Nat.pow_le_pow_right (by decide) hr6
  have hp6 : 2 ^ rent ≤ 64 := hp6
  have K54 : ∀ (k54_ : Nat) (sm : Int64) (t : Int64) (w : Nat) (ξ1 : mdT) (H : Heap) (locs : List Loc), 2 ^ rent - w = k54_ → (rv_inI o 0 10 = true) → (t = rv_ten rent) → (w ≤ 2 ^ rent) → (∀ i, i ≠ 0 → ξ1 i = ξ i) → (ξ1 0 0 = ξ 0 0) → (sm = rv_osum o rent (fun w => (rv_comeN (σ 0) many rent (σ 0 2) (nI w)).2.2) w) → bkP dC dI n 96 (xE dA n ξ1 V V2 im ab be) H → va_S (bkA n 96) s.heap H locs → ∀ ls, lv_has ls 10 [(0, .ref n), (1, .int o), (2, .long sm), (4, .long t), (6, .int (nI w))] → W p l e { frames := 6, cells := 0, slots := 0, locals := 360 } s m [.ref n, .int o].toArray below meth c_ H locs 0 0 (MQ below (xQi (S := Unit) (fun r_ _ => r_ = (sp_odds σ ab be o).1) (fun _ => (RX dC dI dA c n (sp_odds σ ab be o).2.1 (sp_odds σ ab be o).2.2.1 (sp_odds σ ab be o).2.2.2)) (bkA n 96)) [.ref n, .int o].toArray s 0 0 (bkA n 96)) (F0 m 54 ls []) := by
    intro k54_
    induction k54_ using Nat.strongRecOn with
    | _ k54_ ih54 =>
      intro sm t w ξ1 H locs hm54_ hin ht hw hq h00 hsm hP hS ls hl
      have hR := hR.cg (S' := fun i_ => ξ1 (1 + i_)) (fun i hi => hq (1 + i) (by omega)) (fun _ _ => rfl)
      have ho := ho.cg (ξ' := ξ1) h00 (hq 88 (by decide)) (hq 89 (by decide)) rfl rfl rfl
      have K69 : ∀ (k69_ : Nat) (wy : Int64) (r : Nat), rent - r = k69_ → (w < 2 ^ rent) → (r ≤ rent) → (wy = rv_ways o (nI w) r) → ∀ ls, lv_has ls 10 [(0, .ref n), (1, .int o), (2, .long sm), (4, .long t), (6, .int (nI w)), (7, .long wy), (9, .int (nI r))] → W p l e { frames := 6, cells := 0, slots := 0, locals := 360 } s m [.ref n, .int o].toArray below meth c_ H locs 0 0 (MQ below (xQi (S := Unit) (fun r_ _ => r_ = (sp_odds σ ab be o).1) (fun _ => (RX dC dI dA c n (sp_odds σ ab be o).2.1 (sp_odds σ ab be o).2.2.1 (sp_odds σ ab be o).2.2.2)) (bkA n 96)) [.ref n, .int o].toArray s 0 0 (bkA n 96)) (F0 m 69 ls []) := by
        intro k69_
        induction k69_ using Nat.strongRecOn with
        | _ k69_ ih69 =>
          intro wy r hm69_ hwr hr_ hwy ls hl
          refine lv_iload X.1 X.2.1 dX0_odds_69 (lv_at hl 6 rfl) ?_
          refine lv_aload_n X.1 X.2.1 dX0_odds_71 rfl (lv_at hl 0 rfl) ?_
          refine xb_get (C := RX0) (T := TX0) (v := .ref (n + 1)) X in_X0 (ci := 0) rfl hP (j := 0) (by decide) (xe_x0 ..) 0 (by decide) q248 rfl rfl dX0_odds_72 ?_
          refine xb_getN (host := "RentedViews") (C := RX1) (T := TX1) (v := .int (ξ1 1 1)) X in_X1 (ci := 1) rfl hP (j := 1) (by decide) (xe_x1 ..) 5 (by decide) (x_nest hN q154 rfl) rfl rfl dX0_odds_75 ?_
          refine rn_co (y := nI rent) hR.nr ?_
          refine rn_icmp_ge (tgt := 113) X.1 X.2.1 (by omega) (by omega) dX0_odds_78 (by decide) (fun c_78 => ?_) (fun c_78 => ?_)
          · refine lv_aload_n X.1 X.2.1 dX0_odds_113 rfl (lv_at hl 0 rfl) ?_
            refine lv_iload X.1 X.2.1 dX0_odds_114 (lv_at hl 4 rfl) ?_
            refine lv_aload_n X.1 X.2.1 dX0_odds_116 rfl (lv_at hl 0 rfl) ?_
            refine xb_get (C := RX0) (T := TX0) (v := .ref (n + 1)) X in_X0 (ci := 0) rfl hP (j := 0) (by decide) (xe_x0 ..) 0 (by decide) q248 rfl rfl dX0_odds_117 ?_
            refine xb_getN (host := "RentedViews") (C := RX1) (T := TX1) (v := .ref (n + 7)) X in_X1 (ci := 1) rfl hP (j := 1) (by decide) (xe_x1 ..) 8 (by decide) (x_nest hN q160 rfl) rfl rfl dX0_odds_120 ?_
            refine xb_getN (host := "RentedViews") (C := RX2) (T := TX2) (v := .int (ξ1 7 1)) X in_X2 (ci := 2) rfl hP (j := 7) (by decide) (xe_x7 ..) 3 (by decide) (x_nest hN q116 rfl) rfl rfl dX0_odds_123 ?_
            refine rn_co (y := (σ 0) 2) (hR.eve.trans hR.f2.symm) ?_
            refine x_cWv (x_runV X hN ⟨hP, (hV.at hS hT), (tb_sub hT hS)⟩ (As := [.int (nI w), .int ((σ 0) 2)]) (rest := []) (x_X0_comes l dC dI dA n ξ1 V V2 im ab be (nI w) ((σ 0) 2) c many rent rd un hs ev (σ 0) hR T) xkv_X0_272 (x_recv (ci := 0) X.2.2.2.2.2 hP (j := 0) (by decide) (xe_x0 ..) rfl) rfl rfl ⟨Nat.le_of_ble_eq_true rfl, Nat.le_of_ble_eq_true rfl⟩ hl.1 (Nat.le_of_ble_eq_true rfl) dX0_odds_126 ⟨Nat.le_of_ble_eq_true rfl, Nat.le_of_ble_eq_true rfl⟩) hS (fun _ h => h) (fun _ h => h) (fun u126 H locs hu126 hP1 hz1 hk1 hS => ?_)
            have hP := hP1
            have hR := hR.cg (fun i hi => hu126.1 (1 + i) (by omega) ) (fun _ _ => rfl)
            have ho := ho.cg hu126.2.1 (hu126.1 88 (by decide)) (hu126.1 89 (by decide)) rfl rfl rfl
            refine lv_lload_n X.1 X.2.1 dX0_odds_129 rfl (lv_at hl 2 rfl) ?_
            refine lv_lload X.1 X.2.1 dX0_odds_130 (lv_at hl 5 rfl) ?_
            refine lv_aload_n X.1 X.2.1 dX0_odds_132 rfl (lv_at hl 0 rfl) ?_
            refine xb_get (C := RX0) (T := TX0) (v := .int (u126 0 2)) X in_X0 (ci := 0) rfl hP (j := 0) (by decide) (xe_x0 ..) 11 (by decide) q262 rfl rfl dX0_odds_133 ?_
            refine lv_i2l X.1 X.2.1 dX0_odds_136 rfl ?_
            refine lv_lmul X.1 X.2.1 dX0_odds_137 ?_
            refine lv_ladd X.1 X.2.1 dX0_odds_138 ?_
            refine lv_lstore_n (lv' := [(2, .long (sm + (wy * (Int32.toInt64 (u126 0 2))))), (0, .ref n), (1, .int o), (4, .long t), (6, .int (nI w)), (7, .long wy), (9, .int (nI r))]) X.1 X.2.1 dX0_odds_139 rfl hl (by decide) rfl (fun ls hl => ?_)
            refine rn_iinc (lv' := [(6, .int (nI (w + 1))), (2, .long (sm + (wy * (Int32.toInt64 (u126 0 2))))), (0, .ref n), (1, .int o), (4, .long t), (7, .long wy), (9, .int (nI r))]) X.1 X.2.1 dX0_odds_140 hl (k := 4) rfl (by decide) rfl (fun ls hl => ?_)
            refine lv_goto (tgt := 54) X.1 X.2.1 dX0_odds_143 (by decide) ?_
            exact ih54 _ (by omega) (sm + (wy * (Int32.toInt64 (u126 0 2)))) t (w + 1) u126 _ _ rfl hin ht (by omega) (fun i h => (hu126.1 i h).trans (hq i h)) (hu126.2.1.trans h00) (by rw [rv_osum, ← hsm, hwy, show r = rent by omega, hu126.2.2.2]) hP hS ls (lv_sub hl [2, 3, 1, 4, 0] rfl)
          · refine lv_lload X.1 X.2.1 dX0_odds_81 (lv_at hl 5 rfl) ?_
            refine lv_iload X.1 X.2.1 dX0_odds_83 (lv_at hl 4 rfl) ?_
            refine lv_iload X.1 X.2.1 dX0_odds_85 (lv_at hl 6 rfl) ?_
            refine lv_ishr X.1 X.2.1 dX0_odds_87 ?_
            refine lv_iconst (v := nI 1) X.1 X.2.1 dX0_odds_88 rfl ?_
            refine lv_iand X.1 X.2.1 dX0_odds_89 ?_
            refine lv_iconst (v := nI 1) X.1 X.2.1 dX0_odds_90 rfl ?_
            refine lv_icmp_ne (tgt := 99) X.1 X.2.1 dX0_odds_91 (by decide) (fun (c_91 : ¬ ((nI w) >>> ((nI r) &&& 31)) &&& 1 = 1) => ?_) (fun (c_91 : ((nI w) >>> ((nI r) &&& 31)) &&& 1 = 1) => ?_)
            · refine lv_bipush (v := nI 10) X.1 X.2.1 dX0_odds_99 rfl ?_
              refine lv_iload_n X.1 X.2.1 dX0_odds_101 rfl (lv_at hl 1 rfl) ?_
              refine lv_isub X.1 X.2.1 dX0_odds_102 ?_
              refine lv_i2l X.1 X.2.1 dX0_odds_103 rfl ?_
              refine lv_lmul X.1 X.2.1 dX0_odds_104 ?_
              refine lv_lstore (lv' := [(7, .long (wy * (Int32.toInt64 (10 - o)))), (0, .ref n), (1, .int o), (2, .long sm), (4, .long t), (6, .int (nI w)), (9, .int (nI r))]) X.1 X.2.1 dX0_odds_105 hl (by decide) rfl (fun ls hl => ?_)
              refine rn_iinc (lv' := [(9, .int (nI (r + 1))), (7, .long (wy * (Int32.toInt64 (10 - o)))), (0, .ref n), (1, .int o), (2, .long sm), (4, .long t), (6, .int (nI w))]) X.1 X.2.1 dX0_odds_107 hl (k := 6) rfl (by decide) rfl (fun ls hl => ?_)
              refine lv_goto (tgt := 69) X.1 X.2.1 dX0_odds_110 (by decide) ?_
              exact ih69 _ (by omega) (wy * (Int32.toInt64 (10 - o))) (r + 1) rfl hwr (by omega) (by rw [rv_ways, ← hwy]; first | rw [if_pos ((b_low1 (by omega)).mp c_91)] | rw [if_neg (fun z => c_91 ((b_low1 (by omega)).mpr z))]) ls (lv_sub hl [2, 3, 4, 5, 6, 1, 0] rfl)
            · refine lv_iload_n X.1 X.2.1 dX0_odds_94 rfl (lv_at hl 1 rfl) ?_
              refine lv_i2l X.1 X.2.1 dX0_odds_95 rfl ?_
              refine lv_goto (tgt := 104) X.1 X.2.1 dX0_odds_96 (by decide) ?_
              refine lv_lmul X.1 X.2.1 dX0_odds_104 ?_
              refine lv_lstore (lv' := [(7, .long (wy * (Int32.toInt64 o))), (0, .ref n), (1, .int o), (2, .long sm), (4, .long t), (6, .int (nI w)), (9, .int (nI r))]) X.1 X.2.1 dX0_odds_105 hl (by decide) rfl (fun ls hl => ?_)
              refine rn_iinc (lv' := [(9, .int (nI (r + 1))), (7, .long (wy * (Int32.toInt64 o))), (0, .ref n), (1, .int o), (2, .long sm), (4, .long t), (6, .int (nI w))]) X.1 X.2.1 dX0_odds_107 hl (k := 6) rfl (by decide) rfl (fun ls hl => ?_)
              refine lv_goto (tgt := 69) X.1 X.2.1 dX0_odds_110 (by decide) ?_
              exact ih69 _ (by omega) (wy * (Int32.toInt64 o)) (r + 1) rfl hwr (by omega) (by rw [rv_ways, ← hwy]; first | rw [if_pos ((b_low1 (by omega)).mp c_91)] | rw [if_neg (fun z => c_91 ((b_low1 (by omega)).mpr z))]) ls (lv_sub hl [2, 3, 4, 5, 6, 1, 0] rfl)
      refine lv_iload X.1 X.2.1 dX0_odds_54 (lv_at hl 4 rfl) ?_
      refine lv_aload_n X.1 X.2.1 dX0_odds_56 rfl (lv_at hl 0 rfl) ?_
      refine x_cSe (x_runV X hN hP (As := []) (rest := [.int (nI w)]) (x_X0_all l dC dI dA n ξ1 V V2 im ab be c many rent rd un hs ev (σ 0) hR) xkv_X0_269 (x_recv (ci := 0) X.2.2.2.2.2 hP (j := 0) (by decide) (xe_x0 ..) rfl) rfl rfl ⟨Nat.le_of_ble_eq_true rfl, Nat.le_of_ble_eq_true rfl⟩ hl.1 (Nat.le_of_ble_eq_true rfl) dX0_odds_57 ⟨Nat.le_of_ble_eq_true rfl, Nat.le_of_ble_eq_true rfl⟩) ?_
      refine rn_icmp_gt (tgt := 146) X.1 X.2.1 (by omega) (by omega) dX0_odds_60 (by decide) (fun c_60 => ?_) (fun c_60 => ?_)
      · have hz : ¬ rv_gcd sm t = 0 := rv_gcd_ne _ _ _ (Nat.lt_succ_self _) (Or.inl (by rw [ht]; exact rv_ten_ne rent (by omega)))
        refine lv_lload_n X.1 X.2.1 dX0_odds_146 rfl (lv_at hl 2 rfl) ?_
        refine lv_lload X.1 X.2.1 dX0_odds_147 (lv_at hl 3 rfl) ?_
        refine x_cSle (x_runSp X (As := [.long sm, .long t]) (rest := []) (x_X0_divisor l sm t) xks_X0_310 rfl rfl ⟨Nat.le_of_ble_eq_true rfl, Nat.le_of_ble_eq_true rfl⟩ hl.1 (Nat.le_of_ble_eq_true rfl) dX0_odds_149 ⟨Nat.le_of_ble_eq_true rfl, Nat.le_of_ble_eq_true rfl⟩) ?_
        refine lv_lstore (lv' := [(6, .long (rv_gcd sm t)), (0, .ref n), (1, .int o), (2, .long sm), (4, .long t)]) X.1 X.2.1 dX0_odds_152 hl (by decide) rfl (fun ls hl => ?_)
        refine lv_aload_n X.1 X.2.1 dX0_odds_154 rfl (lv_at hl 1 rfl) ?_
        refine lv_lload_n X.1 X.2.1 dX0_odds_155 rfl (lv_at hl 3 rfl) ?_
        refine lv_lload X.1 X.2.1 dX0_odds_156 (lv_at hl 0 rfl) ?_
        refine lv_ldiv X.1 X.2.1 dX0_odds_158 hz ?_
        refine xb_put (C := RX0) (T := TX0) (E' := xE dA n ξ1 V V2 im (sm / (rv_gcd sm t)) be) X in_X0 tyX0 tyX0_ok nmX0 (ci := 0) rfl hP (fun _ h => h) hS (j := 0) (by decide) (xe_x0 ..) 6 (by decide) q257 rfl rfl rfl rfl rfl (Nat.le_of_ble_eq_true rfl) (fun i _ => xE_ab ..) dX0_odds_159 (fun H locs hP hS => ?_)
        refine lv_aload_n X.1 X.2.1 dX0_odds_162 rfl (lv_at hl 1 rfl) ?_
        refine lv_lload X.1 X.2.1 dX0_odds_163 (lv_at hl 4 rfl) ?_
        refine lv_lload X.1 X.2.1 dX0_odds_165 (lv_at hl 0 rfl) ?_
        refine lv_ldiv X.1 X.2.1 dX0_odds_167 hz ?_
        refine xb_put (C := RX0) (T := TX0) (E' := xE dA n ξ1 V V2 im (sm / (rv_gcd sm t)) (t / (rv_gcd sm t))) X in_X0 tyX0 tyX0_ok nmX0 (ci := 0) rfl hP (fun _ h => h) hS (j := 0) (by decide) (xe_x0 ..) 7 (by decide) q258 rfl rfl rfl rfl rfl (Nat.le_of_ble_eq_true rfl) (fun i _ => xE_be ..) dX0_odds_168 (fun H locs hP hS => ?_)
        refine lv_iconst (v := nI 1) X.1 X.2.1 dX0_odds_171 rfl ?_
        exact x_po (by have ew : w = 2 ^ rent := (by omega); rw [sp_odds, if_pos hin, rv_oddsum, hR0.f0, hR0.f1, rv_cln (by omega), rv_cln (by omega), ← ew, ← hsm, ← ht]; rfl) X hr hlk hS dX0_odds_172 (RX.o hP hR ho (hO.at hS) (fun i hi => hq (44 + i) (by omega)) rfl rfl rfl)
      · refine lv_lconst (v := 1) X.1 X.2.1 dX0_odds_63 rfl ?_
        refine lv_lstore (lv' := [(7, .long 1), (0, .ref n), (1, .int o), (2, .long sm), (4, .long t), (6, .int (nI w))]) X.1 X.2.1 dX0_odds_64 hl (by decide) rfl (fun ls hl => ?_)
        refine lv_iconst (v := nI 0) X.1 X.2.1 dX0_odds_66 rfl ?_
        refine lv_istore (lv' := [(9, .int (nI 0)), (7, .long 1), (0, .ref n), (1, .int o), (2, .long sm), (4, .long t), (6, .int (nI w))]) X.1 X.2.1 dX0_odds_67 hl (by decide) rfl (fun ls hl => ?_)
        exact K69 _ 1 0 rfl (by omega) (by omega) rfl ls (lv_sub hl [2, 3, 4, 5, 6, 1, 0] rfl)
  have K25 : ∀ (k25_ : Nat) (t : Int64) (i : Nat), rent - i = k25_ → (rv_inI o 0 10 = true) → (i ≤ rent) → (t = rv_ten i) → ∀ ls, lv_has ls 10 [(0, .ref n), (1, .int o), (2, .long 0), (4, .long t), (6, .int (nI i))] → W p l e { frames := 6, cells := 0, slots := 0, locals := 360 } s m [.ref n, .int o].toArray below meth c_ s.heap [] 0 0 (MQ below (xQi (S := Unit) (fun r_ _ => r_ = (sp_odds σ ab be o).1) (fun _ => (RX dC dI dA c n (sp_odds σ ab be o).2.1 (sp_odds σ ab be o).2.2.1 (sp_odds σ ab be o).2.2.2)) (bkA n 96)) [.ref n, .int o].toArray s 0 0 (bkA n 96)) (F0 m 25 ls []) := by
    intro k25_
    induction k25_ using Nat.strongRecOn with
    | _ k25_ ih25 =>
      intro t i hm25_ hin hi ht ls hl
      refine lv_iload X.1 X.2.1 dX0_odds_25 (lv_at hl 4 rfl) ?_
      refine lv_aload_n X.1 X.2.1 dX0_odds_27 rfl (lv_at hl 0 rfl) ?_
      refine xb_get (C := RX0) (T := TX0) (v := .ref (n + 1)) X in_X0 (ci := 0) rfl hP (j := 0) (by decide) (xe_x0 ..) 0 (by decide) q248 rfl rfl dX0_odds_28 ?_
      refine xb_getN (host := "RentedViews") (C := RX1) (T := TX1) (v := .int (ξ 1 1)) X in_X1 (ci := 1) rfl hP (j := 1) (by decide) (xe_x1 ..) 5 (by decide) (x_nest hN q154 rfl) rfl rfl dX0_odds_31 ?_
      refine rn_co (y := nI rent) hR.nr ?_
      refine rn_icmp_ge (tgt := 51) X.1 X.2.1 (by omega) (by omega) dX0_odds_34 (by decide) (fun c_34 => ?_) (fun c_34 => ?_)
      · refine lv_iconst (v := nI 0) X.1 X.2.1 dX0_odds_51 rfl ?_
        refine lv_istore (lv' := [(6, .int (nI 0)), (0, .ref n), (1, .int o), (2, .long 0), (4, .long t)]) X.1 X.2.1 dX0_odds_52 hl (by decide) rfl (fun ls hl => ?_)
        exact K54 _ 0 t 0 ξ _ _ rfl hin (by rw [ht, show i = rent by omega]) (by omega) (fun _ _ => rfl) rfl rfl hP hS ls (lv_sub hl [1, 2, 3, 4, 0] rfl)
      · refine lv_lload X.1 X.2.1 dX0_odds_37 (lv_at hl 3 rfl) ?_
        refine lv_ldc2 (v := 10) X.1 X.2.1 X.2.2.2.1 (X.2.2.2.2.1 _ q841) dX0_odds_39 ?_
        refine lv_lmul X.1 X.2.1 dX0_odds_42 ?_
        refine lv_lstore (lv' := [(4, .long (t * 10)), (0, .ref n), (1, .int o), (2, .long 0), (6, .int (nI i))]) X.1 X.2.1 dX0_odds_43 hl (by decide) rfl (fun ls hl => ?_)
        refine rn_iinc (lv' := [(6, .int (nI (i + 1))), (4, .long (t * 10)), (0, .ref n), (1, .int o), (2, .long 0)]) X.1 X.2.1 dX0_odds_45 hl (k := 4) rfl (by decide) rfl (fun ls hl => ?_)
        refine lv_goto (tgt := 25) X.1 X.2.1 dX0_odds_48 (by decide) ?_
        exact ih25 _ (by omega) (t * 10) (i + 1) rfl hin (by omega) (by rw [rv_ten, ← ht]) ls (lv_sub hl [2, 3, 4, 1, 0] rfl)
  refine lv_iload_n X.1 X.2.1 dX0_odds_0 rfl (lv_at hl 1 rfl) ?_
  refine lv_i2l X.1 X.2.1 dX0_odds_1 rfl ?_
  refine lv_lconst (v := 0) X.1 X.2.1 dX0_odds_2 rfl ?_
  refine lv_ldc2 (v := 10) X.1 X.2.1 X.2.2.2.1 (X.2.2.2.2.1 _ q841) dX0_odds_3 ?_
  refine x_cSe (x_runSp X (As := [.long (Int32.toInt64 o), .long 0, .long 10]) (rest := []) (x_X0_in l (Int32.toInt64 o) 0 10) xks_X0_89 rfl rfl ⟨Nat.le_of_ble_eq_true rfl, Nat.le_of_ble_eq_true rfl⟩ hl.1 (Nat.le_of_ble_eq_true rfl) dX0_odds_6 ⟨Nat.le_of_ble_eq_true rfl, Nat.le_of_ble_eq_true rfl⟩) ?_
  refine rn_zf (tgt := 17) X.1 X.2.1 dX0_odds_9 (by decide) (fun c_9 => ?_) (fun c_9 => ?_)
  · refine lv_lconst (v := 0) X.1 X.2.1 dX0_odds_17 rfl ?_
    refine lv_lstore_n (lv' := [(2, .long 0), (0, .ref n), (1, .int o)]) X.1 X.2.1 dX0_odds_18 rfl hl (by decide) rfl (fun ls hl => ?_)
    refine lv_lconst (v := 1) X.1 X.2.1 dX0_odds_19 rfl ?_
    refine lv_lstore (lv' := [(4, .long 1), (2, .long 0), (0, .ref n), (1, .int o)]) X.1 X.2.1 dX0_odds_20 hl (by decide) rfl (fun ls hl => ?_)
    refine lv_iconst (v := nI 0) X.1 X.2.1 dX0_odds_22 rfl ?_
    refine lv_istore (lv' := [(6, .int (nI 0)), (4, .long 1), (2, .long 0), (0, .ref n), (1, .int o)]) X.1 X.2.1 dX0_odds_23 hl (by decide) rfl (fun ls hl => ?_)
    exact K25 _ 1 0 rfl c_9 (by omega) rfl ls (lv_sub hl [3, 4, 2, 1, 0] rfl)
  · refine lv_aload_n X.1 X.2.1 dX0_odds_12 rfl (lv_at hl 0 rfl) ?_
    refine x_cWi (x_runV X hN hP (As := []) (rest := []) (x_X0_bad l dC dI dA n ξ V V2 im ab be) xkv_X0_110 (x_recv (ci := 0) X.2.2.2.2.2 hP (j := 0) (by decide) (xe_x0 ..) rfl) rfl rfl ⟨Nat.le_of_ble_eq_true rfl, Nat.le_of_ble_eq_true rfl⟩ hl.1 (Nat.le_of_ble_eq_true rfl) dX0_odds_13 ⟨Nat.le_of_ble_eq_true rfl, Nat.le_of_ble_eq_true rfl⟩) hS (fun _ h => h) (fun _ h => h) (fun r13 _ H locs hr1 hP1 hz1 hk1 hS => ?_)
    subst hr1
    have hP := hP1
    have hR := hR.cg (S' := fun i_ => (mdS ξ 89 0 (ξ 89 0 + nI 1)) (1 + i_)) (fun i hi => by first | rfl | simp (disch := omega) only [mdS_row, mdI_out, upRn] | (simp (disch := omega) only [mdS_row, mdI_out, upRn, *])) (fun _ _ => rfl)
    have ho := oR.b (k := 0) ho (by decide)
    exact x_po (by first | (rw [sp_odds, if_neg (rv_nf c_9)]; done) | (rw [sp_odds, if_neg (rv_nf c_9)]; rfl)) X hr hlk hS dX0_odds_16 (RX.o hP hR ho (hO.at hS) (fun i hi => by first | rfl | simp (disch := omega) only [mdS_row, mdI_out, upRn] | (simp (disch := omega) only [mdS_row, mdI_out, upRn, *])) rfl rfl rfl)
set_option maxHeartbeats 4000000 in
theorem x_X0_drawn (l : Launch) (dC : Nat → ClassId) (dI : Nat → Nat → Nat) (dA : Nat → ClassId) (n c : Nat) (σ : mdT) (ab be : Int64) (sd : Int32) (nn : Int32) (w : Int32) : Met l yX0_drawn (ws_ yX0_drawn cX0_drawn 10 (some .int)) { frames := 6, cells := 0, slots := 0, locals := 360 } (xPc dC dI dA (RX dC dI dA c n σ ab be) [.ref n, .int sd, .int nn, .int w]) (xQi (S := Unit) (fun r_ _ => r_ = (sp_drawn σ sd nn w).1) (fun _ => (RX dC dI dA c n (sp_drawn σ sd nn w).2 ab be)) (bkA n 96)) 0 0 (bkA n 96) := by
  refine x_in (by decide) rfl (Nat.le_of_ble_eq_true rfl) (lv := [(0, .ref n), (1, .int sd), (2, .int nn), (3, .int w)]) rfl ?_
  intro p e s m below meth c_ X hN hnm hr hlk hP ls hl
  obtain ⟨T, ξ, V, V2, im, many, rent, rd, un, hs, ev, ty, hP, hR, ho, hO⟩ := hP
  have ho0 := ho
  have hR0 := hR
  have hV := hO.1
  have hT := hO.tb
  have hm := hR.m6
  have hr6 := hR.r6
  have hd6 := hR.d6
  have hu8 := hR.u8
  have hs12 := hR.h12
  have hS : va_S (bkA n 96) s.heap s.heap [] := va_S.rf
  have K51 : ∀ (k51_ : Nat) (nk : Nat) (x : Int64) (sm : Int32) (k : Nat) (ξ1 : mdT) (H : Heap) (locs : List Loc), nk - k = k51_ → (nn = nI nk) → (nk ≤ 30) → (sp_drawn σ sd nn w = ((rv_drawn (σ 0) many rent sd w nk).2, σ)) → (k ≤ nk) → (∀ i, i ≠ 0 → ξ1 i = ξ i) → (ξ1 0 0 = ξ 0 0) → ((x, sm) = rv_drawn (σ 0) many rent sd w k) → bkP dC dI n 96 (xE dA n ξ1 V V2 im ab be) H → va_S (bkA n 96) s.heap H locs → ∀ ls, lv_has ls 10 [(0, .ref n), (1, .int sd), (2, .int nn), (3, .int w), (4, .long x), (6, .int sm), (7, .int (nI k))] → W p l e { frames := 6, cells := 0, slots := 0, locals := 360 } s m [.ref n, .int sd, .int nn, .int w].toArray below meth c_ H locs 0 0 (MQ below (xQi (S := Unit) (fun r_ _ => r_ = (sp_drawn σ sd nn w).1) (fun _ => (RX dC dI dA c n (sp_drawn σ sd nn w).2 ab be)) (bkA n 96)) [.ref n, .int sd, .int nn, .int w].toArray s 0 0 (bkA n 96)) (F0 m 51 ls []) := by
    intro k51_
    induction k51_ using Nat.strongRecOn with
    | _ k51_ ih51 =>
      intro nk x sm k ξ1 H locs hm51_ hnk hnk3 U hk hq h00 hd hP hS ls hl
      have hR := hR.cg (S' := fun i_ => ξ1 (1 + i_)) (fun i hi => hq (1 + i) (by omega)) (fun _ _ => rfl)
      have ho := ho.cg (ξ' := ξ1) h00 (hq 88 (by decide)) (hq 89 (by decide)) rfl rfl rfl
      have K63 : ∀ (k63_ : Nat) (x1 : Int64) (wh : Int32) (r : Nat), rent - r = k63_ → (k < nk) → (r ≤ rent) → ((x1, wh) = rv_dr w x r) → ∀ ls, lv_has ls 10 [(0, .ref n), (1, .int sd), (2, .int nn), (3, .int w), (4, .long x1), (6, .int sm), (7, .int (nI k)), (8, .int wh), (9, .int (nI r))] → W p l e { frames := 6, cells := 0, slots := 0, locals := 360 } s m [.ref n, .int sd, .int nn, .int w].toArray below meth c_ H locs 0 0 (MQ below (xQi (S := Unit) (fun r_ _ => r_ = (sp_drawn σ sd nn w).1) (fun _ => (RX dC dI dA c n (sp_drawn σ sd nn w).2 ab be)) (bkA n 96)) [.ref n, .int sd, .int nn, .int w].toArray s 0 0 (bkA n 96)) (F0 m 63 ls []) := by
        intro k63_
        induction k63_ using Nat.strongRecOn with
        | _ k63_ ih63 =>
          intro x1 wh r hm63_ hkn hr_ hxw ls hl
          refine lv_iload X.1 X.2.1 dX0_drawn_63 (lv_at hl 8 rfl) ?_
          refine lv_aload_n X.1 X.2.1 dX0_drawn_65 rfl (lv_at hl 0 rfl) ?_
          refine xb_get (C := RX0) (T := TX0) (v := .ref (n + 1)) X in_X0 (ci := 0) rfl hP (j := 0) (by decide) (xe_x0 ..) 0 (by decide) q248 rfl rfl dX0_drawn_66 ?_
          refine xb_getN (host := "RentedViews") (C := RX1) (T := TX1) (v := .int (ξ1 1 1)) X in_X1 (ci := 1) rfl hP (j := 1) (by decide) (xe_x1 ..) 5 (by decide) (x_nest hN q154 rfl) rfl rfl dX0_drawn_69 ?_
          refine rn_co (y := nI rent) hR.nr ?_
          refine rn_icmp_ge (tgt := 126) X.1 X.2.1 (by omega) (by omega) dX0_drawn_72 (by decide) (fun c_72 => ?_) (fun c_72 => ?_)
          · refine lv_aload_n X.1 X.2.1 dX0_drawn_126 rfl (lv_at hl 0 rfl) ?_
            refine lv_iload X.1 X.2.1 dX0_drawn_127 (lv_at hl 7 rfl) ?_
            refine lv_aload_n X.1 X.2.1 dX0_drawn_129 rfl (lv_at hl 0 rfl) ?_
            refine xb_get (C := RX0) (T := TX0) (v := .ref (n + 1)) X in_X0 (ci := 0) rfl hP (j := 0) (by decide) (xe_x0 ..) 0 (by decide) q248 rfl rfl dX0_drawn_130 ?_
            refine xb_getN (host := "RentedViews") (C := RX1) (T := TX1) (v := .ref (n + 7)) X in_X1 (ci := 1) rfl hP (j := 1) (by decide) (xe_x1 ..) 8 (by decide) (x_nest hN q160 rfl) rfl rfl dX0_drawn_133 ?_
            refine xb_getN (host := "RentedViews") (C := RX2) (T := TX2) (v := .int (ξ1 7 1)) X in_X2 (ci := 2) rfl hP (j := 7) (by decide) (xe_x7 ..) 3 (by decide) (x_nest hN q116 rfl) rfl rfl dX0_drawn_136 ?_
            refine rn_co (y := (σ 0) 2) (hR.eve.trans hR.f2.symm) ?_
            refine lv_iload X.1 X.2.1 dX0_drawn_139 (lv_at hl 6 rfl) ?_
            refine lv_iadd X.1 X.2.1 dX0_drawn_141 ?_
            refine x_cWv (x_runV X hN ⟨hP, (hV.at hS hT), (tb_sub hT hS)⟩ (As := [.int wh, .int (((σ 0) 2) + (nI k))]) (rest := []) (x_X0_comes l dC dI dA n ξ1 V V2 im ab be wh (((σ 0) 2) + (nI k)) c many rent rd un hs ev (σ 0) hR T) xkv_X0_272 (x_recv (ci := 0) X.2.2.2.2.2 hP (j := 0) (by decide) (xe_x0 ..) rfl) rfl rfl ⟨Nat.le_of_ble_eq_true rfl, Nat.le_of_ble_eq_true rfl⟩ hl.1 (Nat.le_of_ble_eq_true rfl) dX0_drawn_142 ⟨Nat.le_of_ble_eq_true rfl, Nat.le_of_ble_eq_true rfl⟩) hS (fun _ h => h) (fun _ h => h) (fun u142 H locs hu142 hP1 hz1 hk1 hS => ?_)
            have hP := hP1
            have hR := hR.cg (fun i hi => hu142.1 (1 + i) (by omega) ) (fun _ _ => rfl)
            have ho := ho.cg hu142.2.1 (hu142.1 88 (by decide)) (hu142.1 89 (by decide)) rfl rfl rfl
            refine lv_iload X.1 X.2.1 dX0_drawn_145 (lv_at hl 5 rfl) ?_
            refine lv_aload_n X.1 X.2.1 dX0_drawn_147 rfl (lv_at hl 0 rfl) ?_
            refine xb_get (C := RX0) (T := TX0) (v := .int (u142 0 1)) X in_X0 (ci := 0) rfl hP (j := 0) (by decide) (xe_x0 ..) 10 (by decide) q261 rfl rfl dX0_drawn_148 ?_
            refine lv_iadd X.1 X.2.1 dX0_drawn_151 ?_
            refine lv_istore (lv' := [(6, .int (sm + (u142 0 1))), (0, .ref n), (1, .int sd), (2, .int nn), (3, .int w), (4, .long x1), (7, .int (nI k)), (8, .int wh), (9, .int (nI r))]) X.1 X.2.1 dX0_drawn_152 hl (by decide) rfl (fun ls hl => ?_)
            refine rn_iinc (lv' := [(7, .int (nI (k + 1))), (6, .int (sm + (u142 0 1))), (0, .ref n), (1, .int sd), (2, .int nn), (3, .int w), (4, .long x1), (8, .int wh), (9, .int (nI r))]) X.1 X.2.1 dX0_drawn_154 hl (k := 6) rfl (by decide) rfl (fun ls hl => ?_)
            refine lv_goto (tgt := 51) X.1 X.2.1 dX0_drawn_157 (by decide) ?_
            exact ih51 _ (by omega) nk x1 (sm + (u142 0 1)) (k + 1) u142 _ _ rfl hnk (by omega) U (by omega) (fun i h => (hu142.1 i h).trans (hq i h)) (hu142.2.1.trans h00) (by rw [rv_drawn, ← hd]; have er : r = rent := (by omega); subst er; rw [← hxw, hu142.2.2.1]) hP hS ls (lv_sub hl [2, 3, 4, 5, 6, 1, 0] rfl)
          · refine lv_lload X.1 X.2.1 dX0_drawn_75 (lv_at hl 4 rfl) ?_
            refine lv_ldc2 (v := 1103515245) X.1 X.2.1 X.2.2.2.1 (X.2.2.2.2.1 _ q852) dX0_drawn_77 ?_
            refine lv_lmul X.1 X.2.1 dX0_drawn_80 ?_
            refine lv_ldc2 (v := 12345) X.1 X.2.1 X.2.2.2.1 (X.2.2.2.2.1 _ q853) dX0_drawn_81 ?_
            refine lv_ladd X.1 X.2.1 dX0_drawn_84 ?_
            refine lv_ldc2 (v := 2147483648) X.1 X.2.1 X.2.2.2.1 (X.2.2.2.2.1 _ q854) dX0_drawn_85 ?_
            refine lv_lrem X.1 X.2.1 dX0_drawn_88 (by decide) ?_
            refine lv_lstore (lv' := [(4, .long (((x1 * 1103515245) + 12345) - ((x1 * 1103515245) + 12345) / 2147483648 * 2147483648)), (0, .ref n), (1, .int sd), (2, .int nn), (3, .int w), (6, .int sm), (7, .int (nI k)), (8, .int wh), (9, .int (nI r))]) X.1 X.2.1 dX0_drawn_89 hl (by decide) rfl (fun ls hl => ?_)
            refine lv_iload X.1 X.2.1 dX0_drawn_91 (lv_at hl 7 rfl) ?_
            refine lv_lload X.1 X.2.1 dX0_drawn_93 (lv_at hl 0 rfl) ?_
            refine lv_ldc2 (v := 65536) X.1 X.2.1 X.2.2.2.1 (X.2.2.2.2.1 _ q855) dX0_drawn_95 ?_
            refine lv_ldiv X.1 X.2.1 dX0_drawn_98 (by decide) ?_
            refine lv_ldc2 (v := 100) X.1 X.2.1 X.2.2.2.1 (X.2.2.2.2.1 _ q851) dX0_drawn_99 ?_
            refine lv_lrem X.1 X.2.1 dX0_drawn_102 (by decide) ?_
            refine lv_iload_n X.1 X.2.1 dX0_drawn_103 rfl (lv_at hl 4 rfl) ?_
            refine lv_i2l X.1 X.2.1 dX0_drawn_104 rfl ?_
            refine rn_lcmp_ge (tgt := 116) X.1 X.2.1 dX0_drawn_105 dX0_drawn_106 (by decide) (fun c_105 => ?_) (fun c_105 => ?_)
            · refine lv_iconst (v := nI 0) X.1 X.2.1 dX0_drawn_116 rfl ?_
              refine lv_ior X.1 X.2.1 dX0_drawn_117 ?_
              refine lv_istore (lv' := [(8, .int (wh ||| 0)), (4, .long (((x1 * 1103515245) + 12345) - ((x1 * 1103515245) + 12345) / 2147483648 * 2147483648)), (0, .ref n), (1, .int sd), (2, .int nn), (3, .int w), (6, .int sm), (7, .int (nI k)), (9, .int (nI r))]) X.1 X.2.1 dX0_drawn_118 hl (by decide) rfl (fun ls hl => ?_)
              refine rn_iinc (lv' := [(9, .int (nI (r + 1))), (8, .int (wh ||| 0)), (4, .long (((x1 * 1103515245) + 12345) - ((x1 * 1103515245) + 12345) / 2147483648 * 2147483648)), (0, .ref n), (1, .int sd), (2, .int nn), (3, .int w), (6, .int sm), (7, .int (nI k))]) X.1 X.2.1 dX0_drawn_120 hl (k := 8) rfl (by decide) rfl (fun ls hl => ?_)
              refine lv_goto (tgt := 63) X.1 X.2.1 dX0_drawn_123 (by decide) ?_
              exact ih63 _ (by omega) (((x1 * 1103515245) + 12345) - ((x1 * 1103515245) + 12345) / 2147483648 * 2147483648) (wh ||| 0) (r + 1) rfl hkn (by omega) (by rw [rv_dr, ← hxw]; show (rv_lcg x1, _) = (rv_lcg x1, wh ||| if w.toInt64 ≤ rv_rem64 (rv_lcg x1 / 65536) 100 then 0 else (1 : Int32) <<< (nI r &&& 31)); first | rw [if_pos (show w.toInt64 ≤ rv_rem64 (rv_lcg x1 / 65536) 100 from c_105)] | rw [if_neg (Int64.not_le.mpr (show rv_rem64 (rv_lcg x1 / 65536) 100 < w.toInt64 from c_105))]) ls (lv_sub hl [3, 4, 5, 6, 2, 7, 8, 1, 0] rfl)
            · refine lv_iconst (v := nI 1) X.1 X.2.1 dX0_drawn_109 rfl ?_
              refine lv_iload X.1 X.2.1 dX0_drawn_110 (lv_at hl 8 rfl) ?_
              refine lv_ishl X.1 X.2.1 dX0_drawn_112 ?_
              refine lv_goto (tgt := 117) X.1 X.2.1 dX0_drawn_113 (by decide) ?_
              refine lv_ior X.1 X.2.1 dX0_drawn_117 ?_
              refine lv_istore (lv' := [(8, .int (wh ||| (1 <<< ((nI r) &&& 31)))), (4, .long (((x1 * 1103515245) + 12345) - ((x1 * 1103515245) + 12345) / 2147483648 * 2147483648)), (0, .ref n), (1, .int sd), (2, .int nn), (3, .int w), (6, .int sm), (7, .int (nI k)), (9, .int (nI r))]) X.1 X.2.1 dX0_drawn_118 hl (by decide) rfl (fun ls hl => ?_)
              refine rn_iinc (lv' := [(9, .int (nI (r + 1))), (8, .int (wh ||| (1 <<< ((nI r) &&& 31)))), (4, .long (((x1 * 1103515245) + 12345) - ((x1 * 1103515245) + 12345) / 2147483648 * 2147483648)), (0, .ref n), (1, .int sd), (2, .int nn), (3, .int w), (6, .int sm), (7, .int (nI k))]) X.1 X.2.1 dX0_drawn_120 hl (k := 8) rfl (by decide) rfl (fun ls hl => ?_)
              refine lv_goto (tgt := 63) X.1 X.2.1 dX0_drawn_123 (by decide) ?_
              exact ih63 _ (by omega) (((x1 * 1103515245) + 12345) - ((x1 * 1103515245) + 12345) / 2147483648 * 2147483648) (wh ||| (1 <<< ((nI r) &&& 31))) (r + 1) rfl hkn (by omega) (by rw [rv_dr, ← hxw]; show (rv_lcg x1, _) = (rv_lcg x1, wh ||| if w.toInt64 ≤ rv_rem64 (rv_lcg x1 / 65536) 100 then 0 else (1 : Int32) <<< (nI r &&& 31)); first | rw [if_pos (show w.toInt64 ≤ rv_rem64 (rv_lcg x1 / 65536) 100 from c_105)] | rw [if_neg (Int64.not_le.mpr (show rv_rem64 (rv_lcg x1 / 65536) 100 < w.toInt64 from c_105))]) ls (lv_sub hl [3, 4, 5, 6, 2, 7, 8, 1, 0] rfl)
      refine lv_iload X.1 X.2.1 dX0_drawn_51 (lv_at hl 6 rfl) ?_
      refine lv_iload_n X.1 X.2.1 dX0_drawn_53 rfl (lv_at hl 2 rfl) ?_
      refine rn_co (y := nI nk) hnk ?_
      refine rn_icmp_ge (tgt := 160) X.1 X.2.1 (by omega) (by omega) dX0_drawn_54 (by decide) (fun c_54 => ?_) (fun c_54 => ?_)
      · refine lv_iload X.1 X.2.1 dX0_drawn_160 (lv_at hl 5 rfl) ?_
        exact x_pi (by rw [U, show nk = k by omega, ← hd]) X hr hlk hS dX0_drawn_162 (RX.o hP hR ho (hO.at hS) (fun i hi => hq (44 + i) (by omega)) rfl rfl rfl)
      · refine lv_iconst (v := nI 0) X.1 X.2.1 dX0_drawn_57 rfl ?_
        refine lv_istore (lv' := [(8, .int (nI 0)), (0, .ref n), (1, .int sd), (2, .int nn), (3, .int w), (4, .long x), (6, .int sm), (7, .int (nI k))]) X.1 X.2.1 dX0_drawn_58 hl (by decide) rfl (fun ls hl => ?_)
        refine lv_iconst (v := nI 0) X.1 X.2.1 dX0_drawn_60 rfl ?_
        refine lv_istore (lv' := [(9, .int (nI 0)), (8, .int (nI 0)), (0, .ref n), (1, .int sd), (2, .int nn), (3, .int w), (4, .long x), (6, .int sm), (7, .int (nI k))]) X.1 X.2.1 dX0_drawn_61 hl (by decide) rfl (fun ls hl => ?_)
        exact K63 _ x (nI 0) 0 rfl c_54 (by omega) rfl ls (lv_sub hl [2, 3, 4, 5, 6, 7, 8, 1, 0] rfl)
  refine lv_iload_n X.1 X.2.1 dX0_drawn_0 rfl (lv_at hl 1 rfl) ?_
  refine lv_i2l X.1 X.2.1 dX0_drawn_1 rfl ?_
  refine lv_lconst (v := 0) X.1 X.2.1 dX0_drawn_2 rfl ?_
  refine lv_ldc2 (v := 999999) X.1 X.2.1 X.2.2.2.1 (X.2.2.2.2.1 _ q849) dX0_drawn_3 ?_
  refine x_cSe (x_runSp X (As := [.long (Int32.toInt64 sd), .long 0, .long 999999]) (rest := []) (x_X0_in l (Int32.toInt64 sd) 0 999999) xks_X0_89 rfl rfl ⟨Nat.le_of_ble_eq_true rfl, Nat.le_of_ble_eq_true rfl⟩ hl.1 (Nat.le_of_ble_eq_true rfl) dX0_drawn_6 ⟨Nat.le_of_ble_eq_true rfl, Nat.le_of_ble_eq_true rfl⟩) ?_
  refine rn_zt (tgt := 36) X.1 X.2.1 dX0_drawn_9 (by decide) (fun c_9 => ?_) (fun c_9 => ?_)
  · refine lv_aload_n X.1 X.2.1 dX0_drawn_36 rfl (lv_at hl 0 rfl) ?_
    refine x_cWi (x_runV X hN hP (As := []) (rest := []) (x_X0_bad l dC dI dA n ξ V V2 im ab be) xkv_X0_110 (x_recv (ci := 0) X.2.2.2.2.2 hP (j := 0) (by decide) (xe_x0 ..) rfl) rfl rfl ⟨Nat.le_of_ble_eq_true rfl, Nat.le_of_ble_eq_true rfl⟩ hl.1 (Nat.le_of_ble_eq_true rfl) dX0_drawn_37 ⟨Nat.le_of_ble_eq_true rfl, Nat.le_of_ble_eq_true rfl⟩) hS (fun _ h => h) (fun _ h => h) (fun r37 _ H locs hr1 hP1 hz1 hk1 hS => ?_)
    subst hr1
    have hP := hP1
    have hR := hR.cg (S' := fun i_ => (mdS ξ 89 0 (ξ 89 0 + nI 1)) (1 + i_)) (fun i hi => by first | rfl | simp (disch := omega) only [mdS_row, mdI_out, upRn] | (simp (disch := omega) only [mdS_row, mdI_out, upRn, *])) (fun _ _ => rfl)
    have ho := oR.b (k := 0) ho (by decide)
    exact x_pi (by first | (rw [sp_drawn, if_neg (rv_nf c_9)]; done) | (rw [sp_drawn, if_neg (rv_nf c_9)]; rfl) | (rw [sp_drawn, if_pos c_9, if_neg (rv_nf c_21)]; done) | (rw [sp_drawn, if_pos c_9, if_neg (rv_nf c_21)]; rfl) | (rw [sp_drawn, if_pos c_9, if_pos c_21, if_neg (rv_nf c_33)]; done) | (rw [sp_drawn, if_pos c_9, if_pos c_21, if_neg (rv_nf c_33)]; rfl)) X hr hlk hS dX0_drawn_40 (RX.o hP hR ho (hO.at hS) (fun i hi => by first | rfl | simp (disch := omega) only [mdS_row, mdI_out, upRn] | (simp (disch := omega) only [mdS_row, mdI_out, upRn, *])) rfl rfl rfl)
  · refine lv_iload_n X.1 X.2.1 dX0_drawn_12 rfl (lv_at hl 2 rfl) ?_
    refine lv_i2l X.1 X.2.1 dX0_drawn_13 rfl ?_
    refine lv_lconst (v := 0) X.1 X.2.1 dX0_drawn_14 rfl ?_
    refine lv_ldc2 (v := 30) X.1 X.2.1 X.2.2.2.1 (X.2.2.2.2.1 _ q850) dX0_drawn_15 ?_
    refine x_cSe (x_runSp X (As := [.long (Int32.toInt64 nn), .long 0, .long 30]) (rest := []) (x_X0_in l (Int32.toInt64 nn) 0 30) xks_X0_89 rfl rfl ⟨Nat.le_of_ble_eq_true rfl, Nat.le_of_ble_eq_true rfl⟩ hl.1 (Nat.le_of_ble_eq_true rfl) dX0_drawn_18 ⟨Nat.le_of_ble_eq_true rfl, Nat.le_of_ble_eq_true rfl⟩) ?_
    refine rn_zt (tgt := 36) X.1 X.2.1 dX0_drawn_21 (by decide) (fun c_21 => ?_) (fun c_21 => ?_)
    · refine lv_aload_n X.1 X.2.1 dX0_drawn_36 rfl (lv_at hl 0 rfl) ?_
      refine x_cWi (x_runV X hN hP (As := []) (rest := []) (x_X0_bad l dC dI dA n ξ V V2 im ab be) xkv_X0_110 (x_recv (ci := 0) X.2.2.2.2.2 hP (j := 0) (by decide) (xe_x0 ..) rfl) rfl rfl ⟨Nat.le_of_ble_eq_true rfl, Nat.le_of_ble_eq_true rfl⟩ hl.1 (Nat.le_of_ble_eq_true rfl) dX0_drawn_37 ⟨Nat.le_of_ble_eq_true rfl, Nat.le_of_ble_eq_true rfl⟩) hS (fun _ h => h) (fun _ h => h) (fun r37 _ H locs hr1 hP1 hz1 hk1 hS => ?_)
      subst hr1
      have hP := hP1
      have hR := hR.cg (S' := fun i_ => (mdS ξ 89 0 (ξ 89 0 + nI 1)) (1 + i_)) (fun i hi => by first | rfl | simp (disch := omega) only [mdS_row, mdI_out, upRn] | (simp (disch := omega) only [mdS_row, mdI_out, upRn, *])) (fun _ _ => rfl)
      have ho := oR.b (k := 0) ho (by decide)
      exact x_pi (by first | (rw [sp_drawn, if_neg (rv_nf c_9)]; done) | (rw [sp_drawn, if_neg (rv_nf c_9)]; rfl) | (rw [sp_drawn, if_pos c_9, if_neg (rv_nf c_21)]; done) | (rw [sp_drawn, if_pos c_9, if_neg (rv_nf c_21)]; rfl) | (rw [sp_drawn, if_pos c_9, if_pos c_21, if_neg (rv_nf c_33)]; done) | (rw [sp_drawn, if_pos c_9, if_pos c_21, if_neg (rv_nf c_33)]; rfl)) X hr hlk hS dX0_drawn_40 (RX.o hP hR ho (hO.at hS) (fun i hi => by first | rfl | simp (disch := omega) only [mdS_row, mdI_out, upRn] | (simp (disch := omega) only [mdS_row, mdI_out, upRn, *])) rfl rfl rfl)
    · refine lv_iload_n X.1 X.2.1 dX0_drawn_24 rfl (lv_at hl 3 rfl) ?_
      refine lv_i2l X.1 X.2.1 dX0_drawn_25 rfl ?_
      refine lv_lconst (v := 0) X.1 X.2.1 dX0_drawn_26 rfl ?_
      refine lv_ldc2 (v := 100) X.1 X.2.1 X.2.2.2.1 (X.2.2.2.2.1 _ q851) dX0_drawn_27 ?_
      refine x_cSe (x_runSp X (As := [.long (Int32.toInt64 w), .long 0, .long 100]) (rest := []) (x_X0_in l (Int32.toInt64 w) 0 100) xks_X0_89 rfl rfl ⟨Nat.le_of_ble_eq_true rfl, Nat.le_of_ble_eq_true rfl⟩ hl.1 (Nat.le_of_ble_eq_true rfl) dX0_drawn_30 ⟨Nat.le_of_ble_eq_true rfl, Nat.le_of_ble_eq_true rfl⟩) ?_
      refine rn_zf (tgt := 41) X.1 X.2.1 dX0_drawn_33 (by decide) (fun c_33 => ?_) (fun c_33 => ?_)
      · obtain ⟨nk, hnk3, hnk⟩ := rv_inIx (v := nn) 30 rfl (by omega) c_21
        have U : sp_drawn σ sd nn w = ((rv_drawn (σ 0) many rent sd w nk).2, σ) := by rw [sp_drawn, if_pos c_9, if_pos c_21, if_pos c_33, hR0.f0, hR0.f1, hnk, rv_cln (by omega), rv_cln (by omega), rv_cln (by omega)]
        refine lv_iload_n X.1 X.2.1 dX0_drawn_41 rfl (lv_at hl 1 rfl) ?_
        refine lv_i2l X.1 X.2.1 dX0_drawn_42 rfl ?_
        refine lv_lstore (lv' := [(4, .long (Int32.toInt64 sd)), (0, .ref n), (1, .int sd), (2, .int nn), (3, .int w)]) X.1 X.2.1 dX0_drawn_43 hl (by decide) rfl (fun ls hl => ?_)
        refine lv_iconst (v := nI 0) X.1 X.2.1 dX0_drawn_45 rfl ?_
        refine lv_istore (lv' := [(6, .int (nI 0)), (4, .long (Int32.toInt64 sd)), (0, .ref n), (1, .int sd), (2, .int nn), (3, .int w)]) X.1 X.2.1 dX0_drawn_46 hl (by decide) rfl (fun ls hl => ?_)
        refine lv_iconst (v := nI 0) X.1 X.2.1 dX0_drawn_48 rfl ?_
        refine lv_istore (lv' := [(7, .int (nI 0)), (6, .int (nI 0)), (4, .long (Int32.toInt64 sd)), (0, .ref n), (1, .int sd), (2, .int nn), (3, .int w)]) X.1 X.2.1 dX0_drawn_49 hl (by decide) rfl (fun ls hl => ?_)
        exact K51 _ nk (Int32.toInt64 sd) (nI 0) 0 ξ _ _ rfl hnk (by omega) U (by omega) (fun _ _ => rfl) rfl rfl hP hS ls (lv_sub hl [3, 4, 5, 6, 2, 1, 0] rfl)
      · refine lv_aload_n X.1 X.2.1 dX0_drawn_36 rfl (lv_at hl 0 rfl) ?_
        refine x_cWi (x_runV X hN hP (As := []) (rest := []) (x_X0_bad l dC dI dA n ξ V V2 im ab be) xkv_X0_110 (x_recv (ci := 0) X.2.2.2.2.2 hP (j := 0) (by decide) (xe_x0 ..) rfl) rfl rfl ⟨Nat.le_of_ble_eq_true rfl, Nat.le_of_ble_eq_true rfl⟩ hl.1 (Nat.le_of_ble_eq_true rfl) dX0_drawn_37 ⟨Nat.le_of_ble_eq_true rfl, Nat.le_of_ble_eq_true rfl⟩) hS (fun _ h => h) (fun _ h => h) (fun r37 _ H locs hr1 hP1 hz1 hk1 hS => ?_)
        subst hr1
        have hP := hP1
        have hR := hR.cg (S' := fun i_ => (mdS ξ 89 0 (ξ 89 0 + nI 1)) (1 + i_)) (fun i hi => by first | rfl | simp (disch := omega) only [mdS_row, mdI_out, upRn] | (simp (disch := omega) only [mdS_row, mdI_out, upRn, *])) (fun _ _ => rfl)
        have ho := oR.b (k := 0) ho (by decide)
        exact x_pi (by first | (rw [sp_drawn, if_neg (rv_nf c_9)]; done) | (rw [sp_drawn, if_neg (rv_nf c_9)]; rfl) | (rw [sp_drawn, if_pos c_9, if_neg (rv_nf c_21)]; done) | (rw [sp_drawn, if_pos c_9, if_neg (rv_nf c_21)]; rfl) | (rw [sp_drawn, if_pos c_9, if_pos c_21, if_neg (rv_nf c_33)]; done) | (rw [sp_drawn, if_pos c_9, if_pos c_21, if_neg (rv_nf c_33)]; rfl)) X hr hlk hS dX0_drawn_40 (RX.o hP hR ho (hO.at hS) (fun i hi => by first | rfl | simp (disch := omega) only [mdS_row, mdI_out, upRn] | (simp (disch := omega) only [mdS_row, mdI_out, upRn, *])) rfl rfl rfl)
set_option maxHeartbeats 2000000 in
theorem x_X0_digest (l : Launch) (dC : Nat → ClassId) (dI : Nat → Nat → Nat) (dA : Nat → ClassId) (n c : Nat) (σ : mdT) (ab be : Int64) : Met l yX0_digest (ws_ yX0_digest cX0_digest 6 (some .long)) { frames := 4, cells := 0, slots := 0, locals := 240 } (xPc dC dI dA (RX dC dI dA c n σ ab be) [.ref n]) (vp_Sl (fun r_ => r_ = sp_digest σ ab be)) 0 0 (fun _ => False) := by
  refine x_in (by decide) rfl (Nat.le_of_ble_eq_true rfl) (lv := [(0, .ref n)]) rfl ?_
  intro p e s m below meth c_ X hN hnm hr hlk hP ls hl
  obtain ⟨T, ξ, V, V2, im, many, rent, rd, un, hs, ev, ty, hP, hR, ho, hO⟩ := hP
  have ho0 := ho
  have hR0 := hR
  have hV := hO.1
  have hT := hO.tb
  have hm := hR.m6
  have hr6 := hR.r6
  have hd6 := hR.d6
  have hu8 := hR.u8
  have hs12 := hR.h12
  have K255 : ∀ (k255_ : Nat) (h : Int64) (i : Nat), 3 * rd - i = k255_ → (i ≤ 3 * rd) → (h = rv_sum (fun k => σ 0 (97 + k)) (rv_sum (fun k => σ 0 (61 + k)) (rv_sum (fun k => σ 0 (43 + k)) (rv_sum (fun k => σ 0 (7 + k)) (rv_dig σ 9) (6 * many)) (3 * rent)) (3 * hs)) i) → ∀ ls, lv_has ls 6 [(0, .ref n), (1, .long h), (3, .ref (n + 7)), (4, .int (nI i))] → W p l e { frames := 4, cells := 0, slots := 0, locals := 240 } s m [.ref n].toArray below meth c_ s.heap [] 0 0 (MQ below (vp_Sl (fun r_ => r_ = sp_digest σ ab be)) [.ref n].toArray s 0 0 (fun _ => False)) (F0 m 255 ls []) := by
    intro k255_
    induction k255_ using Nat.strongRecOn with
    | _ k255_ ih255 =>
      intro h i hm255_ hi hh ls hl
      refine lv_iload X.1 X.2.1 dX0_digest_255 (lv_at hl 3 rfl) ?_
      refine lv_iconst (v := nI 3) X.1 X.2.1 dX0_digest_257 rfl ?_
      refine lv_aload_n X.1 X.2.1 dX0_digest_258 rfl (lv_at hl 0 rfl) ?_
      refine xb_get (C := RX0) (T := TX0) (v := .ref (n + 1)) X in_X0 (ci := 0) rfl hP (j := 0) (by decide) (xe_x0 ..) 0 (by decide) q248 rfl rfl dX0_digest_259 ?_
      refine xb_getN (host := "RentedViews") (C := RX1) (T := TX1) (v := .int (ξ 1 2)) X in_X1 (ci := 1) rfl hP (j := 1) (by decide) (xe_x1 ..) 7 (by decide) (x_nest hN q158 rfl) rfl rfl dX0_digest_262 ?_
      refine rn_co (y := nI rd) hR.nd ?_
      refine rn_imul X.1 X.2.1 dX0_digest_265 ?_
      refine rn_icmp_ge (tgt := 293) X.1 X.2.1 (by omega) (by omega) dX0_digest_266 (by decide) (fun c_266 => ?_) (fun c_266 => ?_)
      · refine lv_ldc2 (v := 31) X.1 X.2.1 X.2.2.2.1 (X.2.2.2.2.1 _ q890) dX0_digest_293 ?_
        refine lv_ldc2 (v := 31) X.1 X.2.1 X.2.2.2.1 (X.2.2.2.2.1 _ q890) dX0_digest_296 ?_
        refine lv_lload_n X.1 X.2.1 dX0_digest_299 rfl (lv_at hl 1 rfl) ?_
        refine lv_lmul X.1 X.2.1 dX0_digest_300 ?_
        refine lv_aload_n X.1 X.2.1 dX0_digest_301 rfl (lv_at hl 0 rfl) ?_
        refine xb_get (C := RX0) (T := TX0) (v := .long ab) X in_X0 (ci := 0) rfl hP (j := 0) (by decide) (xe_x0 ..) 6 (by decide) q257 rfl rfl dX0_digest_302 ?_
        refine lv_ladd X.1 X.2.1 dX0_digest_305 ?_
        refine lv_lmul X.1 X.2.1 dX0_digest_306 ?_
        refine lv_aload_n X.1 X.2.1 dX0_digest_307 rfl (lv_at hl 0 rfl) ?_
        refine xb_get (C := RX0) (T := TX0) (v := .long be) X in_X0 (ci := 0) rfl hP (j := 0) (by decide) (xe_x0 ..) 7 (by decide) q258 rfl rfl dX0_digest_308 ?_
        refine lv_ladd X.1 X.2.1 dX0_digest_311 ?_
        exact rv_rl X.1 X.2.1 hr hlk dX0_digest_312 (by rw [sp_digest, hR0.f0, hR0.f1, hR0.f4, hR0.f5, rv_cln (by omega), rv_cln (by omega), rv_cln (by omega), rv_cln (by omega), hh, show i = 3 * rd by omega])
      · refine lv_ldc2 (v := 31) X.1 X.2.1 X.2.2.2.1 (X.2.2.2.2.1 _ q890) dX0_digest_269 ?_
        refine lv_lload_n X.1 X.2.1 dX0_digest_272 rfl (lv_at hl 1 rfl) ?_
        refine lv_lmul X.1 X.2.1 dX0_digest_273 ?_
        refine lv_aload_n X.1 X.2.1 dX0_digest_274 rfl (lv_at hl 0 rfl) ?_
        refine xb_get (C := RX0) (T := TX0) (v := .ref (n + 1)) X in_X0 (ci := 0) rfl hP (j := 0) (by decide) (xe_x0 ..) 0 (by decide) q248 rfl rfl dX0_digest_275 ?_
        refine xb_getN (host := "RentedViews") (C := RX1) (T := TX1) (v := .ref (n + 6)) X in_X1 (ci := 1) rfl hP (j := 1) (by decide) (xe_x1 ..) 6 (by decide) (x_nest hN q156 rfl) rfl rfl dX0_digest_278 ?_
        refine lv_iload X.1 X.2.1 dX0_digest_281 (lv_at hl 3 rfl) ?_
        refine xb_iald X hP (j := 6) (by decide) (n := 18) (f := ξ 6) rfl (by omega) (by decide) dX0_digest_283 ?_
        refine rn_co (y := (σ 0) (97 + i)) (hR.rea (by omega)) ?_
        refine lv_i2l X.1 X.2.1 dX0_digest_284 rfl ?_
        refine lv_ladd X.1 X.2.1 dX0_digest_285 ?_
        refine lv_lstore_n (lv' := [(1, .long ((31 * h) + (Int32.toInt64 ((σ 0) (97 + i))))), (0, .ref n), (3, .ref (n + 7)), (4, .int (nI i))]) X.1 X.2.1 dX0_digest_286 rfl hl (by decide) rfl (fun ls hl => ?_)
        refine rn_iinc (lv' := [(4, .int (nI (i + 1))), (1, .long ((31 * h) + (Int32.toInt64 ((σ 0) (97 + i))))), (0, .ref n), (3, .ref (n + 7))]) X.1 X.2.1 dX0_digest_287 hl (k := 3) rfl (by decide) rfl (fun ls hl => ?_)
        refine lv_goto (tgt := 255) X.1 X.2.1 dX0_digest_290 (by decide) ?_
        exact ih255 _ (by omega) ((31 * h) + (Int32.toInt64 ((σ 0) (97 + i)))) (i + 1) rfl (by omega) (by simp only [rv_sum]; rw [hh]) ls (lv_sub hl [2, 1, 3, 0] rfl)
  have K220 : ∀ (k220_ : Nat) (h : Int64) (i : Nat), 3 * hs - i = k220_ → (i ≤ 3 * hs) → (h = rv_sum (fun k => σ 0 (61 + k)) (rv_sum (fun k => σ 0 (43 + k)) (rv_sum (fun k => σ 0 (7 + k)) (rv_dig σ 9) (6 * many)) (3 * rent)) i) → ∀ ls, lv_has ls 6 [(0, .ref n), (1, .long h), (3, .ref (n + 7)), (4, .int (nI i))] → W p l e { frames := 4, cells := 0, slots := 0, locals := 240 } s m [.ref n].toArray below meth c_ s.heap [] 0 0 (MQ below (vp_Sl (fun r_ => r_ = sp_digest σ ab be)) [.ref n].toArray s 0 0 (fun _ => False)) (F0 m 220 ls []) := by
    intro k220_
    induction k220_ using Nat.strongRecOn with
    | _ k220_ ih220 =>
      intro h i hm220_ hi hh ls hl
      refine lv_iload X.1 X.2.1 dX0_digest_220 (lv_at hl 3 rfl) ?_
      refine lv_iconst (v := nI 3) X.1 X.2.1 dX0_digest_222 rfl ?_
      refine lv_aload_n X.1 X.2.1 dX0_digest_223 rfl (lv_at hl 2 rfl) ?_
      refine xb_getN (host := "RentedViews") (C := RX2) (T := TX2) (v := .int (ξ 7 2)) X in_X2 (ci := 2) rfl hP (j := 7) (by decide) (xe_x7 ..) 5 (by decide) (x_nest hN q121 rfl) rfl rfl dX0_digest_224 ?_
      refine rn_co (y := nI hs) hR.tol ?_
      refine rn_imul X.1 X.2.1 dX0_digest_227 ?_
      refine rn_icmp_ge (tgt := 252) X.1 X.2.1 (by omega) (by omega) dX0_digest_228 (by decide) (fun c_228 => ?_) (fun c_228 => ?_)
      · refine lv_iconst (v := nI 0) X.1 X.2.1 dX0_digest_252 rfl ?_
        refine lv_istore (lv' := [(4, .int (nI 0)), (0, .ref n), (1, .long h), (3, .ref (n + 7))]) X.1 X.2.1 dX0_digest_253 hl (by decide) rfl (fun ls hl => ?_)
        exact K255 _ h 0 rfl (by omega) (by rw [hh, show i = 3 * hs by omega]; rfl) ls (lv_sub hl [1, 2, 3, 0] rfl)
      · refine lv_ldc2 (v := 31) X.1 X.2.1 X.2.2.2.1 (X.2.2.2.2.1 _ q890) dX0_digest_231 ?_
        refine lv_lload_n X.1 X.2.1 dX0_digest_234 rfl (lv_at hl 1 rfl) ?_
        refine lv_lmul X.1 X.2.1 dX0_digest_235 ?_
        refine lv_aload_n X.1 X.2.1 dX0_digest_236 rfl (lv_at hl 2 rfl) ?_
        refine xb_getN (host := "RentedViews") (C := RX2) (T := TX2) (v := .ref (n + 10)) X in_X2 (ci := 2) rfl hP (j := 7) (by decide) (xe_x7 ..) 4 (by decide) (x_nest hN q118 rfl) rfl rfl dX0_digest_237 ?_
        refine lv_iload X.1 X.2.1 dX0_digest_240 (lv_at hl 3 rfl) ?_
        refine xb_iald X hP (j := 10) (by decide) (n := 36) (f := ξ 10) rfl (by omega) (by decide) dX0_digest_242 ?_
        refine rn_co (y := (σ 0) (61 + i)) (hR.his (by omega)) ?_
        refine lv_i2l X.1 X.2.1 dX0_digest_243 rfl ?_
        refine lv_ladd X.1 X.2.1 dX0_digest_244 ?_
        refine lv_lstore_n (lv' := [(1, .long ((31 * h) + (Int32.toInt64 ((σ 0) (61 + i))))), (0, .ref n), (3, .ref (n + 7)), (4, .int (nI i))]) X.1 X.2.1 dX0_digest_245 rfl hl (by decide) rfl (fun ls hl => ?_)
        refine rn_iinc (lv' := [(4, .int (nI (i + 1))), (1, .long ((31 * h) + (Int32.toInt64 ((σ 0) (61 + i))))), (0, .ref n), (3, .ref (n + 7))]) X.1 X.2.1 dX0_digest_246 hl (k := 3) rfl (by decide) rfl (fun ls hl => ?_)
        refine lv_goto (tgt := 220) X.1 X.2.1 dX0_digest_249 (by decide) ?_
        exact ih220 _ (by omega) ((31 * h) + (Int32.toInt64 ((σ 0) (61 + i)))) (i + 1) rfl (by omega) (by simp only [rv_sum]; rw [hh]) ls (lv_sub hl [2, 1, 3, 0] rfl)
  have K152 : ∀ (k152_ : Nat) (h : Int64) (i : Nat), rent - i = k152_ → (i ≤ rent) → (h = rv_sum (fun k => σ 0 (43 + k)) (rv_sum (fun k => σ 0 (7 + k)) (rv_dig σ 9) (6 * many)) (3 * i)) → ∀ ls, lv_has ls 6 [(0, .ref n), (1, .long h), (3, .ref (n + 7)), (4, .int (nI i))] → W p l e { frames := 4, cells := 0, slots := 0, locals := 240 } s m [.ref n].toArray below meth c_ s.heap [] 0 0 (MQ below (vp_Sl (fun r_ => r_ = sp_digest σ ab be)) [.ref n].toArray s 0 0 (fun _ => False)) (F0 m 152 ls []) := by
    intro k152_
    induction k152_ using Nat.strongRecOn with
    | _ k152_ ih152 =>
      intro h i hm152_ hi hh ls hl
      refine lv_iload X.1 X.2.1 dX0_digest_152 (lv_at hl 3 rfl) ?_
      refine lv_aload_n X.1 X.2.1 dX0_digest_154 rfl (lv_at hl 0 rfl) ?_
      refine xb_get (C := RX0) (T := TX0) (v := .ref (n + 1)) X in_X0 (ci := 0) rfl hP (j := 0) (by decide) (xe_x0 ..) 0 (by decide) q248 rfl rfl dX0_digest_155 ?_
      refine xb_getN (host := "RentedViews") (C := RX1) (T := TX1) (v := .int (ξ 1 1)) X in_X1 (ci := 1) rfl hP (j := 1) (by decide) (xe_x1 ..) 5 (by decide) (x_nest hN q154 rfl) rfl rfl dX0_digest_158 ?_
      refine rn_co (y := nI rent) hR.nr ?_
      refine rn_icmp_ge (tgt := 217) X.1 X.2.1 (by omega) (by omega) dX0_digest_161 (by decide) (fun c_161 => ?_) (fun c_161 => ?_)
      · refine lv_iconst (v := nI 0) X.1 X.2.1 dX0_digest_217 rfl ?_
        refine lv_istore (lv' := [(4, .int (nI 0)), (0, .ref n), (1, .long h), (3, .ref (n + 7))]) X.1 X.2.1 dX0_digest_218 hl (by decide) rfl (fun ls hl => ?_)
        exact K220 _ h 0 rfl (by omega) (by rw [hh, show i = rent by omega]; rfl) ls (lv_sub hl [1, 2, 3, 0] rfl)
      · refine lv_ldc2 (v := 31) X.1 X.2.1 X.2.2.2.1 (X.2.2.2.2.1 _ q890) dX0_digest_164 ?_
        refine lv_ldc2 (v := 31) X.1 X.2.1 X.2.2.2.1 (X.2.2.2.2.1 _ q890) dX0_digest_167 ?_
        refine lv_ldc2 (v := 31) X.1 X.2.1 X.2.2.2.1 (X.2.2.2.2.1 _ q890) dX0_digest_170 ?_
        refine lv_lload_n X.1 X.2.1 dX0_digest_173 rfl (lv_at hl 1 rfl) ?_
        refine lv_lmul X.1 X.2.1 dX0_digest_174 ?_
        refine lv_aload_n X.1 X.2.1 dX0_digest_175 rfl (lv_at hl 0 rfl) ?_
        refine xb_get (C := RX0) (T := TX0) (v := .ref (n + 1)) X in_X0 (ci := 0) rfl hP (j := 0) (by decide) (xe_x0 ..) 0 (by decide) q248 rfl rfl dX0_digest_176 ?_
        refine xb_getN (host := "RentedViews") (C := RX1) (T := TX1) (v := .ref (n + 4)) X in_X1 (ci := 1) rfl hP (j := 1) (by decide) (xe_x1 ..) 3 (by decide) (x_nest hN q148 rfl) rfl rfl dX0_digest_179 ?_
        refine lv_iload X.1 X.2.1 dX0_digest_182 (lv_at hl 3 rfl) ?_
        refine xb_iald X hP (j := 4) (by decide) (n := 6) (f := ξ 4) rfl (by omega) (by decide) dX0_digest_184 ?_
        refine rn_co (y := (σ 0) (43 + 3 * i)) (hR.wal (by omega)) ?_
        refine lv_i2l X.1 X.2.1 dX0_digest_185 rfl ?_
        refine lv_ladd X.1 X.2.1 dX0_digest_186 ?_
        refine lv_lmul X.1 X.2.1 dX0_digest_187 ?_
        refine lv_aload_n X.1 X.2.1 dX0_digest_188 rfl (lv_at hl 2 rfl) ?_
        refine xb_getN (host := "RentedViews") (C := RX2) (T := TX2) (v := .ref (n + 8)) X in_X2 (ci := 2) rfl hP (j := 7) (by decide) (xe_x7 ..) 0 (by decide) (x_nest hN q107 rfl) rfl rfl dX0_digest_189 ?_
        refine lv_iload X.1 X.2.1 dX0_digest_192 (lv_at hl 3 rfl) ?_
        refine xb_iald X hP (j := 8) (by decide) (n := 6) (f := ξ 8) rfl (by omega) (by decide) dX0_digest_194 ?_
        refine rn_co (y := (σ 0) (43 + 3 * i + 1)) (hR.pur (by omega)) ?_
        refine lv_i2l X.1 X.2.1 dX0_digest_195 rfl ?_
        refine lv_ladd X.1 X.2.1 dX0_digest_196 ?_
        refine lv_lmul X.1 X.2.1 dX0_digest_197 ?_
        refine lv_aload_n X.1 X.2.1 dX0_digest_198 rfl (lv_at hl 0 rfl) ?_
        refine xb_get (C := RX0) (T := TX0) (v := .ref (n + 1)) X in_X0 (ci := 0) rfl hP (j := 0) (by decide) (xe_x0 ..) 0 (by decide) q248 rfl rfl dX0_digest_199 ?_
        refine xb_getN (host := "RentedViews") (C := RX1) (T := TX1) (v := .ref (n + 5)) X in_X1 (ci := 1) rfl hP (j := 1) (by decide) (xe_x1 ..) 4 (by decide) (x_nest hN q150 rfl) rfl rfl dX0_digest_202 ?_
        refine lv_iload X.1 X.2.1 dX0_digest_205 (lv_at hl 3 rfl) ?_
        refine xb_iald X hP (j := 5) (by decide) (n := 6) (f := ξ 5) rfl (by omega) (by decide) dX0_digest_207 ?_
        refine rn_co (y := (σ 0) (43 + 3 * i + 2)) (hR.wan (by omega)) ?_
        refine lv_i2l X.1 X.2.1 dX0_digest_208 rfl ?_
        refine lv_ladd X.1 X.2.1 dX0_digest_209 ?_
        refine lv_lstore_n (lv' := [(1, .long ((31 * ((31 * ((31 * h) + (Int32.toInt64 ((σ 0) (43 + 3 * i))))) + (Int32.toInt64 ((σ 0) (43 + 3 * i + 1))))) + (Int32.toInt64 ((σ 0) (43 + 3 * i + 2))))), (0, .ref n), (3, .ref (n + 7)), (4, .int (nI i))]) X.1 X.2.1 dX0_digest_210 rfl hl (by decide) rfl (fun ls hl => ?_)
        refine rn_iinc (lv' := [(4, .int (nI (i + 1))), (1, .long ((31 * ((31 * ((31 * h) + (Int32.toInt64 ((σ 0) (43 + 3 * i))))) + (Int32.toInt64 ((σ 0) (43 + 3 * i + 1))))) + (Int32.toInt64 ((σ 0) (43 + 3 * i + 2))))), (0, .ref n), (3, .ref (n + 7))]) X.1 X.2.1 dX0_digest_211 hl (k := 3) rfl (by decide) rfl (fun ls hl => ?_)
        refine lv_goto (tgt := 152) X.1 X.2.1 dX0_digest_214 (by decide) ?_
        exact ih152 _ (by omega) ((31 * ((31 * ((31 * h) + (Int32.toInt64 ((σ 0) (43 + 3 * i))))) + (Int32.toInt64 ((σ 0) (43 + 3 * i + 1))))) + (Int32.toInt64 ((σ 0) (43 + 3 * i + 2)))) (i + 1) rfl (by omega) (by rw [rv_sum3, hh]) ls (lv_sub hl [2, 1, 3, 0] rfl)
  have K42 : ∀ (k42_ : Nat) (h : Int64) (i : Nat), many - i = k42_ → (i ≤ many) → (h = rv_sum (fun k => σ 0 (7 + k)) (rv_dig σ 9) (6 * i)) → ∀ ls, lv_has ls 6 [(0, .ref n), (1, .long h), (3, .ref (n + 7)), (4, .int (nI i))] → W p l e { frames := 4, cells := 0, slots := 0, locals := 240 } s m [.ref n].toArray below meth c_ s.heap [] 0 0 (MQ below (vp_Sl (fun r_ => r_ = sp_digest σ ab be)) [.ref n].toArray s 0 0 (fun _ => False)) (F0 m 42 ls []) := by
    intro k42_
    induction k42_ using Nat.strongRecOn with
    | _ k42_ ih42 =>
      intro h i hm42_ hi hh ls hl
      refine lv_iload X.1 X.2.1 dX0_digest_42 (lv_at hl 3 rfl) ?_
      refine lv_aload_n X.1 X.2.1 dX0_digest_44 rfl (lv_at hl 0 rfl) ?_
      refine xb_get (C := RX0) (T := TX0) (v := .ref (n + 1)) X in_X0 (ci := 0) rfl hP (j := 0) (by decide) (xe_x0 ..) 0 (by decide) q248 rfl rfl dX0_digest_45 ?_
      refine xb_getN (host := "RentedViews") (C := RX1) (T := TX1) (v := .int (ξ 1 0)) X in_X1 (ci := 1) rfl hP (j := 1) (by decide) (xe_x1 ..) 2 (by decide) (x_nest hN q145 rfl) rfl rfl dX0_digest_48 ?_
      refine rn_co (y := nI many) hR.nm ?_
      refine rn_icmp_ge (tgt := 149) X.1 X.2.1 (by omega) (by omega) dX0_digest_51 (by decide) (fun c_51 => ?_) (fun c_51 => ?_)
      · refine lv_iconst (v := nI 0) X.1 X.2.1 dX0_digest_149 rfl ?_
        refine lv_istore (lv' := [(4, .int (nI 0)), (0, .ref n), (1, .long h), (3, .ref (n + 7))]) X.1 X.2.1 dX0_digest_150 hl (by decide) rfl (fun ls hl => ?_)
        exact K152 _ h 0 rfl (by omega) (by rw [hh, show i = many by omega]; rfl) ls (lv_sub hl [1, 2, 3, 0] rfl)
      · refine lv_aload_n X.1 X.2.1 dX0_digest_54 rfl (lv_at hl 0 rfl) ?_
        refine xb_get (C := RX0) (T := TX0) (v := .ref (n + 1)) X in_X0 (ci := 0) rfl hP (j := 0) (by decide) (xe_x0 ..) 0 (by decide) q248 rfl rfl dX0_digest_55 ?_
        refine xb_getN (host := "RentedViews") (C := RX1) (T := TX1) (v := .ref (n + 2)) X in_X1 (ci := 1) rfl hP (j := 1) (by decide) (xe_x1 ..) 0 (by decide) (x_nest hN q139 rfl) rfl rfl dX0_digest_58 ?_
        refine lv_iload X.1 X.2.1 dX0_digest_61 (lv_at hl 3 rfl) ?_
        obtain ⟨a63, kd63, hVa63, hTa63, hk63, hf63, hv63⟩ := hV.2 i (by omega)
        refine xb_aald X hP (j := 2) (by decide) (t := 3) (C := RX6) (f := V) rfl rfl (by omega) (by decide) dX0_digest_63 ?_
        refine x_vq hVa63 ?_
        refine lv_astore (lv' := [(5, .ref a63), (0, .ref n), (1, .long h), (3, .ref (n + 7)), (4, .int (nI i))]) X.1 X.2.1 dX0_digest_64 hl (by decide) rfl (fun ls hl => ?_)
        refine lv_ldc2 (v := 31) X.1 X.2.1 X.2.2.2.1 (X.2.2.2.2.1 _ q890) dX0_digest_66 ?_
        refine lv_ldc2 (v := 31) X.1 X.2.1 X.2.2.2.1 (X.2.2.2.2.1 _ q890) dX0_digest_69 ?_
        refine lv_ldc2 (v := 31) X.1 X.2.1 X.2.2.2.1 (X.2.2.2.2.1 _ q890) dX0_digest_72 ?_
        refine lv_lload_n X.1 X.2.1 dX0_digest_75 rfl (lv_at hl 2 rfl) ?_
        refine lv_lmul X.1 X.2.1 dX0_digest_76 ?_
        refine lv_aload X.1 X.2.1 dX0_digest_77 (lv_at hl 0 rfl) ?_
        refine vd_X0_kind X hN hk63 hv63 (rest := [.long (31 * h), .long 31, .long 31]) ⟨Nat.le_of_ble_eq_true rfl, Nat.le_of_ble_eq_true rfl⟩ hl.1 (Nat.le_of_ble_eq_true rfl) dX0_digest_79 ⟨Nat.le_of_ble_eq_true rfl, Nat.le_of_ble_eq_true rfl⟩ ?_
        refine rn_co (y := (σ 0) (7 + 6 * i)) (by rw [hf63]) ?_
        refine lv_i2l X.1 X.2.1 dX0_digest_82 rfl ?_
        refine lv_ladd X.1 X.2.1 dX0_digest_83 ?_
        refine lv_lmul X.1 X.2.1 dX0_digest_84 ?_
        refine lv_aload X.1 X.2.1 dX0_digest_85 (lv_at hl 0 rfl) ?_
        obtain ⟨C87_, T87_, K87_⟩ := vwK_of hk63
        refine vw_getN (host := "RentedViews") X hN K87_ hv63 0 (by decide) q337 rfl dX0_digest_87 ?_
        refine lv_i2l X.1 X.2.1 dX0_digest_90 rfl ?_
        refine lv_ladd X.1 X.2.1 dX0_digest_91 ?_
        refine lv_lmul X.1 X.2.1 dX0_digest_92 ?_
        refine lv_aload X.1 X.2.1 dX0_digest_93 (lv_at hl 0 rfl) ?_
        obtain ⟨C95_, T95_, K95_⟩ := vwK_of hk63
        refine vw_getN (host := "RentedViews") X hN K95_ hv63 1 (by decide) q339 rfl dX0_digest_95 ?_
        refine lv_i2l X.1 X.2.1 dX0_digest_98 rfl ?_
        refine lv_ladd X.1 X.2.1 dX0_digest_99 ?_
        refine lv_lstore_n (lv' := [(1, .long ((31 * ((31 * ((31 * h) + (Int32.toInt64 ((σ 0) (7 + 6 * i))))) + (Int32.toInt64 ((σ 0) (7 + 6 * i + 1))))) + (Int32.toInt64 ((σ 0) (7 + 6 * i + 2))))), (5, .ref a63), (0, .ref n), (3, .ref (n + 7)), (4, .int (nI i))]) X.1 X.2.1 dX0_digest_100 rfl hl (by decide) rfl (fun ls hl => ?_)
        refine lv_ldc2 (v := 31) X.1 X.2.1 X.2.2.2.1 (X.2.2.2.2.1 _ q890) dX0_digest_101 ?_
        refine lv_ldc2 (v := 31) X.1 X.2.1 X.2.2.2.1 (X.2.2.2.2.1 _ q890) dX0_digest_104 ?_
        refine lv_ldc2 (v := 31) X.1 X.2.1 X.2.2.2.1 (X.2.2.2.2.1 _ q890) dX0_digest_107 ?_
        refine lv_lload_n X.1 X.2.1 dX0_digest_110 rfl (lv_at hl 0 rfl) ?_
        refine lv_lmul X.1 X.2.1 dX0_digest_111 ?_
        refine lv_aload X.1 X.2.1 dX0_digest_112 (lv_at hl 1 rfl) ?_
        obtain ⟨C114_, T114_, K114_⟩ := vwK_of hk63
        refine vw_getN (host := "RentedViews") X hN K114_ hv63 2 (by decide) q341 rfl dX0_digest_114 ?_
        refine lv_i2l X.1 X.2.1 dX0_digest_117 rfl ?_
        refine lv_ladd X.1 X.2.1 dX0_digest_118 ?_
        refine lv_lmul X.1 X.2.1 dX0_digest_119 ?_
        refine lv_aload_n X.1 X.2.1 dX0_digest_120 rfl (lv_at hl 3 rfl) ?_
        refine xb_getN (host := "RentedViews") (C := RX2) (T := TX2) (v := .ref (n + 9)) X in_X2 (ci := 2) rfl hP (j := 7) (by decide) (xe_x7 ..) 1 (by decide) (x_nest hN q110 rfl) rfl rfl dX0_digest_121 ?_
        refine lv_iload X.1 X.2.1 dX0_digest_124 (lv_at hl 4 rfl) ?_
        refine xb_iald X hP (j := 9) (by decide) (n := 6) (f := ξ 9) rfl (by omega) (by decide) dX0_digest_126 ?_
        refine rn_co (y := (σ 0) (7 + 6 * i + 4)) (hR.lt (by omega)) ?_
        refine lv_i2l X.1 X.2.1 dX0_digest_127 rfl ?_
        refine lv_ladd X.1 X.2.1 dX0_digest_128 ?_
        refine lv_lmul X.1 X.2.1 dX0_digest_129 ?_
        refine lv_aload_n X.1 X.2.1 dX0_digest_130 rfl (lv_at hl 2 rfl) ?_
        refine xb_get (C := RX0) (T := TX0) (v := .ref (n + 1)) X in_X0 (ci := 0) rfl hP (j := 0) (by decide) (xe_x0 ..) 0 (by decide) q248 rfl rfl dX0_digest_131 ?_
        refine xb_getN (host := "RentedViews") (C := RX1) (T := TX1) (v := .ref (n + 3)) X in_X1 (ci := 1) rfl hP (j := 1) (by decide) (xe_x1 ..) 1 (by decide) (x_nest hN q142 rfl) rfl rfl dX0_digest_134 ?_
        refine lv_iload X.1 X.2.1 dX0_digest_137 (lv_at hl 4 rfl) ?_
        refine xb_iald X hP (j := 3) (by decide) (n := 6) (f := ξ 3) rfl (by omega) (by decide) dX0_digest_139 ?_
        refine rn_co (y := (σ 0) (7 + 6 * i + 5)) (hR.thg (by omega)) ?_
        refine lv_i2l X.1 X.2.1 dX0_digest_140 rfl ?_
        refine lv_ladd X.1 X.2.1 dX0_digest_141 ?_
        refine lv_lstore_n (lv' := [(1, .long ((31 * ((31 * ((31 * ((31 * ((31 * ((31 * h) + (Int32.toInt64 ((σ 0) (7 + 6 * i))))) + (Int32.toInt64 ((σ 0) (7 + 6 * i + 1))))) + (Int32.toInt64 ((σ 0) (7 + 6 * i + 2))))) + (Int32.toInt64 ((σ 0) (7 + 6 * i + 3))))) + (Int32.toInt64 ((σ 0) (7 + 6 * i + 4))))) + (Int32.toInt64 ((σ 0) (7 + 6 * i + 5))))), (5, .ref a63), (0, .ref n), (3, .ref (n + 7)), (4, .int (nI i))]) X.1 X.2.1 dX0_digest_142 rfl hl (by decide) rfl (fun ls hl => ?_)
        refine rn_iinc (lv' := [(4, .int (nI (i + 1))), (1, .long ((31 * ((31 * ((31 * ((31 * ((31 * ((31 * h) + (Int32.toInt64 ((σ 0) (7 + 6 * i))))) + (Int32.toInt64 ((σ 0) (7 + 6 * i + 1))))) + (Int32.toInt64 ((σ 0) (7 + 6 * i + 2))))) + (Int32.toInt64 ((σ 0) (7 + 6 * i + 3))))) + (Int32.toInt64 ((σ 0) (7 + 6 * i + 4))))) + (Int32.toInt64 ((σ 0) (7 + 6 * i + 5))))), (5, .ref a63), (0, .ref n), (3, .ref (n + 7))]) X.1 X.2.1 dX0_digest_143 hl (k := 4) rfl (by decide) rfl (fun ls hl => ?_)
        refine lv_goto (tgt := 42) X.1 X.2.1 dX0_digest_146 (by decide) ?_
        exact ih42 _ (by omega) ((31 * ((31 * ((31 * ((31 * ((31 * ((31 * h) + (Int32.toInt64 ((σ 0) (7 + 6 * i))))) + (Int32.toInt64 ((σ 0) (7 + 6 * i + 1))))) + (Int32.toInt64 ((σ 0) (7 + 6 * i + 2))))) + (Int32.toInt64 ((σ 0) (7 + 6 * i + 3))))) + (Int32.toInt64 ((σ 0) (7 + 6 * i + 4))))) + (Int32.toInt64 ((σ 0) (7 + 6 * i + 5)))) (i + 1) rfl (by omega) (by rw [rv_sum6, hh]) ls (lv_sub hl [3, 1, 4, 0] rfl)
  have K6 : ∀ (k6_ : Nat) (h : Int64) (i : Nat), 9 - i = k6_ → (i ≤ 9) → (h = rv_dig σ i) → ∀ ls, lv_has ls 6 [(0, .ref n), (1, .long h), (3, .int (nI i))] → W p l e { frames := 4, cells := 0, slots := 0, locals := 240 } s m [.ref n].toArray below meth c_ s.heap [] 0 0 (MQ below (vp_Sl (fun r_ => r_ = sp_digest σ ab be)) [.ref n].toArray s 0 0 (fun _ => False)) (F0 m 6 ls []) := by
    intro k6_
    induction k6_ using Nat.strongRecOn with
    | _ k6_ ih6 =>
      intro h i hm6_ hi hh ls hl
      refine lv_iload_n X.1 X.2.1 dX0_digest_6 rfl (lv_at hl 2 rfl) ?_
      refine lv_bipush (v := nI 9) X.1 X.2.1 dX0_digest_7 rfl ?_
      refine rn_icmp_ge (tgt := 31) X.1 X.2.1 (by omega) (by omega) dX0_digest_9 (by decide) (fun c_9 => ?_) (fun c_9 => ?_)
      · refine lv_aload_n X.1 X.2.1 dX0_digest_31 rfl (lv_at hl 0 rfl) ?_
        refine xb_get (C := RX0) (T := TX0) (v := .ref (n + 1)) X in_X0 (ci := 0) rfl hP (j := 0) (by decide) (xe_x0 ..) 0 (by decide) q248 rfl rfl dX0_digest_32 ?_
        refine xb_getN (host := "RentedViews") (C := RX1) (T := TX1) (v := .ref (n + 7)) X in_X1 (ci := 1) rfl hP (j := 1) (by decide) (xe_x1 ..) 8 (by decide) (x_nest hN q160 rfl) rfl rfl dX0_digest_35 ?_
        refine lv_astore_n (lv' := [(3, .ref (n + 7)), (0, .ref n), (1, .long h)]) X.1 X.2.1 dX0_digest_38 rfl hl (by decide) rfl (fun ls hl => ?_)
        refine lv_iconst (v := nI 0) X.1 X.2.1 dX0_digest_39 rfl ?_
        refine lv_istore (lv' := [(4, .int (nI 0)), (3, .ref (n + 7)), (0, .ref n), (1, .long h)]) X.1 X.2.1 dX0_digest_40 hl (by decide) rfl (fun ls hl => ?_)
        exact K42 _ h 0 rfl (by omega) (by rw [hh, show i = 9 by omega]; rfl) ls (lv_sub hl [2, 3, 1, 0] rfl)
      · refine lv_ldc2 (v := 31) X.1 X.2.1 X.2.2.2.1 (X.2.2.2.2.1 _ q890) dX0_digest_12 ?_
        refine lv_lload_n X.1 X.2.1 dX0_digest_15 rfl (lv_at hl 1 rfl) ?_
        refine lv_lmul X.1 X.2.1 dX0_digest_16 ?_
        refine lv_aload_n X.1 X.2.1 dX0_digest_17 rfl (lv_at hl 0 rfl) ?_
        refine lv_iload_n X.1 X.2.1 dX0_digest_18 rfl (lv_at hl 2 rfl) ?_
        refine x_cSe (x_runV X hN hP (As := [.int (nI i)]) (rest := [.long (31 * h)]) (x_X0_countOf l dC dI dA n ξ V V2 im ab be i c many rent rd un hs ev (σ 0) hR σ rfl (ho.ty.trans ho.tyσ.symm) (by omega)) xkv_X0_336 (x_recv (ci := 0) X.2.2.2.2.2 hP (j := 0) (by decide) (xe_x0 ..) rfl) rfl rfl ⟨Nat.le_of_ble_eq_true rfl, Nat.le_of_ble_eq_true rfl⟩ hl.1 (Nat.le_of_ble_eq_true rfl) dX0_digest_19 ⟨Nat.le_of_ble_eq_true rfl, Nat.le_of_ble_eq_true rfl⟩) ?_
        refine lv_i2l X.1 X.2.1 dX0_digest_22 rfl ?_
        refine lv_ladd X.1 X.2.1 dX0_digest_23 ?_
        refine lv_lstore_n (lv' := [(1, .long ((31 * h) + (Int32.toInt64 (sp_counted σ (nI i))))), (0, .ref n), (3, .int (nI i))]) X.1 X.2.1 dX0_digest_24 rfl hl (by decide) rfl (fun ls hl => ?_)
        refine rn_iinc (lv' := [(3, .int (nI (i + 1))), (1, .long ((31 * h) + (Int32.toInt64 (sp_counted σ (nI i))))), (0, .ref n)]) X.1 X.2.1 dX0_digest_25 hl (k := 2) rfl (by decide) rfl (fun ls hl => ?_)
        refine lv_goto (tgt := 6) X.1 X.2.1 dX0_digest_28 (by decide) ?_
        exact ih6 _ (by omega) ((31 * h) + (Int32.toInt64 (sp_counted σ (nI i)))) (i + 1) rfl (by omega) (by simp only [rv_dig]; rw [hh]) ls (lv_sub hl [2, 1, 0] rfl)
  refine lv_ldc2 (v := 997) X.1 X.2.1 X.2.2.2.1 (X.2.2.2.2.1 _ q889) dX0_digest_0 ?_
  refine lv_lstore_n (lv' := [(1, .long 997), (0, .ref n)]) X.1 X.2.1 dX0_digest_3 rfl hl (by decide) rfl (fun ls hl => ?_)
  refine lv_iconst (v := nI 0) X.1 X.2.1 dX0_digest_4 rfl ?_
  refine lv_istore_n (lv' := [(3, .int (nI 0)), (1, .long 997), (0, .ref n)]) X.1 X.2.1 dX0_digest_5 rfl hl (by decide) rfl (fun ls hl => ?_)
  exact K6 _ 997 0 rfl (by omega) rfl ls (lv_sub hl [2, 1, 0] rfl)
