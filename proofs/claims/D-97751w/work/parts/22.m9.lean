set_option maxRecDepth 100000
/-! the Model: odds, draws -/
set_option maxHeartbeats 4000000 in
theorem met_odds (l : Launch) (dC : Nat → ClassId) (dI : Nat → Nat → Nat) (dA : Nat → ClassId) (n : Nat) (σ : mdT) (ab be : Int64) (o : Int32) (many : Nat) (h0 : σ 0 0 = nI many) (hm : many ≤ 6) (rent : Nat) (h1 : σ 0 1 = nI rent) (hr6 : rent ≤ 6) : Met l yX5_odds (ws_ yX5_odds cX5_odds 10 (some .int)) { frames := 7, cells := 0, slots := 0, locals := 420 } (mdPc dC dI dA n σ ab be [.ref n, .int o]) (va_Qi (fun r_ u => r_ = (sp_odds σ ab be o).1 ∧ mdQ (sp_odds σ ab be o).2.1 u.1 ∧ u.2 = (sp_odds σ ab be o).2.2) (mdBL dC dI dA n) (mdA n)) 0 0 (mdA n) := by
  refine md_in (by decide) rfl (Nat.le_of_ble_eq_true rfl) (lv := [(0, .ref n), (1, .int o)]) rfl ?_
  intro p e s m below meth c C hr hlk hP ls hl
  have hx := C.1
  have hb := C.2.1
  have hown := C.2.2.2.1
  have hts := C.2.2.2.2.1
  have hS : va_S (mdA n) s.heap s.heap [] := va_S.rf
  have hp2 : 2 ^ rent ≤ 64 := Nat.le_trans (Nat.pow_le_pow_right (by decide) hr6) (by decide)
  have hp1 : 1 ≤ 2 ^ rent := Nat.one_le_two_pow
  have K57 : ∀ (k57_ : Nat) (sm : Int64) (t : Int64) (w : Nat) (σ1 : mdT) (H : Heap) (locs : List Loc), 2 ^ rent - w = k57_ → (rv_inI o 0 10 = true) → (t = rv_ten rent) → (w ≤ 2 ^ rent) → (mdHandy σ many rent σ1) → (sm = rv_osum o rent (fun w => (rv_comeN (σ 0) many rent (σ 0 2) (nI w)).2.2) w) → mdP dC dI dA n σ1 ab be H → va_S (mdA n) s.heap H locs → ∀ ls, lv_has ls 10 [(0, .ref n), (1, .int o), (2, .long sm), (4, .long t), (6, .int (nI w))] → W p l e { frames := 7, cells := 0, slots := 0, locals := 420 } s m [.ref n, .int o].toArray below meth c H locs 0 0 (MQ below (va_Qi (fun r_ u => r_ = (sp_odds σ ab be o).1 ∧ mdQ (sp_odds σ ab be o).2.1 u.1 ∧ u.2 = (sp_odds σ ab be o).2.2) (mdBL dC dI dA n) (mdA n)) [.ref n, .int o].toArray s 0 0 (mdA n)) (F0 m 57 ls []) := by
    intro k57_
    induction k57_ using Nat.strongRecOn with
    | _ k57_ ih57 =>
      intro sm t w σ1 H locs hm57_ hin ht hw hy hsm hP hS ls hl
      have h1a : σ1 0 1 = nI rent := by rw [hy.1.1]; exact h1
      have h0a : σ1 0 0 = nI many := by rw [hy.1.1]; exact h0
      have hha : σ1 15 0 = nI rent := hy.2.1
      have K72 : ∀ (k72_ : Nat) (wy : Int64) (r : Nat), rent - r = k72_ → (w < 2 ^ rent) → (r ≤ rent) → (wy = rv_ways o (nI w) r) → ∀ ls, lv_has ls 10 [(0, .ref n), (1, .int o), (2, .long sm), (4, .long t), (6, .int (nI w)), (7, .long wy), (9, .int (nI r))] → W p l e { frames := 7, cells := 0, slots := 0, locals := 420 } s m [.ref n, .int o].toArray below meth c H locs 0 0 (MQ below (va_Qi (fun r_ u => r_ = (sp_odds σ ab be o).1 ∧ mdQ (sp_odds σ ab be o).2.1 u.1 ∧ u.2 = (sp_odds σ ab be o).2.2) (mdBL dC dI dA n) (mdA n)) [.ref n, .int o].toArray s 0 0 (mdA n)) (F0 m 72 ls []) := by
        intro k72_
        induction k72_ using Nat.strongRecOn with
        | _ k72_ ih72 =>
          intro wy r hm72_ hwr hr_ hwy ls hl
          refine lv_iload hx hb dX5_odds_72 (lv_at hl 6 rfl) ?_
          refine lv_aload_n hx hb dX5_odds_74 rfl (lv_at hl 0 rfl) ?_
          refine md_cSe (As := []) (rest := [.int (nI r)]) C hP (met_renters l dC dI dA n σ1 ab be) card_renters rfl rfl ⟨Nat.le_of_ble_eq_true rfl, Nat.le_of_ble_eq_true rfl⟩ hl.1 (Nat.le_of_ble_eq_true rfl) dX5_odds_75 ?_
          refine rn_co (y := nI rent) h1a ?_
          refine rn_icmp_ge (tgt := 113) hx hb (by omega) (by omega) dX5_odds_78 (by decide) (fun c_78 => ?_) (fun c_78 => ?_)
          · refine lv_aload_n hx hb dX5_odds_113 rfl (lv_at hl 0 rfl) ?_
            refine lv_aload_n hx hb dX5_odds_114 rfl (lv_at hl 0 rfl) ?_
            refine md_g0 C hP dX5_odds_115 ?_
            refine lv_iconst (v := nI 2) hx hb dX5_odds_118 rfl ?_
            refine md_l0 C hP (by omega) dX5_odds_119 ?_
            refine lv_iload hx hb dX5_odds_120 (lv_at hl 4 rfl) ?_
            refine md_cWv (As := [.int (σ1 0 2), .int (nI w)]) (rest := []) C hP hS (met_layCome l dC dI dA n σ1 ab be (σ1 0 2) (nI w) many h0a hm rent hha (by omega)) card_layCome rfl rfl ⟨Nat.le_of_ble_eq_true rfl, Nat.le_of_ble_eq_true rfl⟩ hl.1 (Nat.le_of_ble_eq_true rfl) dX5_odds_122 (fun s122 H locs hs122 hP hS => ?_)
            refine lv_lload_n hx hb dX5_odds_125 rfl (lv_at hl 2 rfl) ?_
            refine lv_lload hx hb dX5_odds_126 (lv_at hl 5 rfl) ?_
            refine lv_aload_n hx hb dX5_odds_128 rfl (lv_at hl 0 rfl) ?_
            refine md_g17 C hP dX5_odds_129 ?_
            refine lv_i2l hx hb dX5_odds_132 rfl ?_
            refine lv_lmul hx hb dX5_odds_133 ?_
            refine lv_ladd hx hb dX5_odds_134 ?_
            refine lv_lstore_n (lv' := [(2, .long (sm + (wy * (Int32.toInt64 (s122 15 4))))), (0, .ref n), (1, .int o), (4, .long t), (6, .int (nI w)), (7, .long wy), (9, .int (nI r))]) hx hb dX5_odds_135 rfl hl (by decide) rfl (fun ls hl => ?_)
            refine rn_iinc (lv' := [(6, .int (nI (w + 1))), (2, .long (sm + (wy * (Int32.toInt64 (s122 15 4))))), (0, .ref n), (1, .int o), (4, .long t), (7, .long wy), (9, .int (nI r))]) hx hb dX5_odds_136 hl (k := 4) rfl (by decide) rfl (fun ls hl => ?_)
            refine lv_goto (tgt := 57) hx hb dX5_odds_139 (by decide) ?_
            exact ih57 _ (by omega) (sm + (wy * (Int32.toInt64 (s122 15 4)))) t (w + 1) s122 _ _ rfl hin ht (by omega) (hy.come hs122) (by rw [rv_osum, ← hsm, hwy, show r = rent by omega, ← (hy.N hm (by rw [← hy.1.1]; exact hs122)).2]) hP hS ls (lv_sub hl [2, 3, 1, 4, 0] rfl)
          · refine lv_lload hx hb dX5_odds_81 (lv_at hl 5 rfl) ?_
            refine lv_iload hx hb dX5_odds_83 (lv_at hl 4 rfl) ?_
            refine lv_iload hx hb dX5_odds_85 (lv_at hl 6 rfl) ?_
            refine lv_ishr hx hb dX5_odds_87 ?_
            refine lv_iconst (v := nI 1) hx hb dX5_odds_88 rfl ?_
            refine lv_iand hx hb dX5_odds_89 ?_
            refine lv_iconst (v := nI 1) hx hb dX5_odds_90 rfl ?_
            refine lv_icmp_ne (tgt := 99) hx hb dX5_odds_91 (by decide) (fun (c_91 : ¬ ((nI w) >>> ((nI r) &&& 31)) &&& 1 = 1) => ?_) (fun (c_91 : ((nI w) >>> ((nI r) &&& 31)) &&& 1 = 1) => ?_)
            · refine lv_bipush (v := nI 10) hx hb dX5_odds_99 rfl ?_
              refine lv_iload_n hx hb dX5_odds_101 rfl (lv_at hl 1 rfl) ?_
              refine lv_isub hx hb dX5_odds_102 ?_
              refine lv_i2l hx hb dX5_odds_103 rfl ?_
              refine lv_lmul hx hb dX5_odds_104 ?_
              refine lv_lstore (lv' := [(7, .long (wy * (Int32.toInt64 (10 - o)))), (0, .ref n), (1, .int o), (2, .long sm), (4, .long t), (6, .int (nI w)), (9, .int (nI r))]) hx hb dX5_odds_105 hl (by decide) rfl (fun ls hl => ?_)
              refine rn_iinc (lv' := [(9, .int (nI (r + 1))), (7, .long (wy * (Int32.toInt64 (10 - o)))), (0, .ref n), (1, .int o), (2, .long sm), (4, .long t), (6, .int (nI w))]) hx hb dX5_odds_107 hl (k := 6) rfl (by decide) rfl (fun ls hl => ?_)
              refine lv_goto (tgt := 72) hx hb dX5_odds_110 (by decide) ?_
              exact ih72 _ (by omega) (wy * (Int32.toInt64 (10 - o))) (r + 1) rfl hwr (by omega) (by rw [rv_ways, ← hwy]; first | rw [if_pos ((b_low1 (by omega)).mp c_91)] | rw [if_neg (fun z => c_91 ((b_low1 (by omega)).mpr z))]) ls (lv_sub hl [2, 3, 4, 5, 6, 1, 0] rfl)
            · refine lv_iload_n hx hb dX5_odds_94 rfl (lv_at hl 1 rfl) ?_
              refine lv_i2l hx hb dX5_odds_95 rfl ?_
              refine lv_goto (tgt := 104) hx hb dX5_odds_96 (by decide) ?_
              refine lv_lmul hx hb dX5_odds_104 ?_
              refine lv_lstore (lv' := [(7, .long (wy * (Int32.toInt64 o))), (0, .ref n), (1, .int o), (2, .long sm), (4, .long t), (6, .int (nI w)), (9, .int (nI r))]) hx hb dX5_odds_105 hl (by decide) rfl (fun ls hl => ?_)
              refine rn_iinc (lv' := [(9, .int (nI (r + 1))), (7, .long (wy * (Int32.toInt64 o))), (0, .ref n), (1, .int o), (2, .long sm), (4, .long t), (6, .int (nI w))]) hx hb dX5_odds_107 hl (k := 6) rfl (by decide) rfl (fun ls hl => ?_)
              refine lv_goto (tgt := 72) hx hb dX5_odds_110 (by decide) ?_
              exact ih72 _ (by omega) (wy * (Int32.toInt64 o)) (r + 1) rfl hwr (by omega) (by rw [rv_ways, ← hwy]; first | rw [if_pos ((b_low1 (by omega)).mp c_91)] | rw [if_neg (fun z => c_91 ((b_low1 (by omega)).mpr z))]) ls (lv_sub hl [2, 3, 4, 5, 6, 1, 0] rfl)
      refine lv_iload hx hb dX5_odds_57 (lv_at hl 4 rfl) ?_
      refine lv_aload_n hx hb dX5_odds_59 rfl (lv_at hl 0 rfl) ?_
      refine md_cSe (As := []) (rest := [.int (nI w)]) C hP (met_allRenters l dC dI dA n σ1 ab be rent h1a hr6) card_allRenters rfl rfl ⟨Nat.le_of_ble_eq_true rfl, Nat.le_of_ble_eq_true rfl⟩ hl.1 (Nat.le_of_ble_eq_true rfl) dX5_odds_60 ?_
      refine rn_icmp_gt (tgt := 142) hx hb (by omega) (by omega) dX5_odds_63 (by decide) (fun c_63 => ?_) (fun c_63 => ?_)
      · refine lv_aload_n hx hb dX5_odds_142 rfl (lv_at hl 0 rfl) ?_
        refine lv_lload_n hx hb dX5_odds_143 rfl (lv_at hl 2 rfl) ?_
        refine lv_lload hx hb dX5_odds_144 (lv_at hl 3 rfl) ?_
        refine md_cLv (As := [.long sm, .long t]) (rest := []) C hP hS (met_fraction l dC dI dA n σ1 ab be sm t (by rw [ht]; exact rv_ten_ne rent (by omega))) card_fraction rfl rfl ⟨Nat.le_of_ble_eq_true rfl, Nat.le_of_ble_eq_true rfl⟩ hl.1 (Nat.le_of_ble_eq_true rfl) dX5_odds_146 (fun s146 H locs hs146 hP hS => ?_)
        refine lv_iconst (v := nI 1) hx hb dX5_odds_149 rfl ?_
        exact md_rLi C hr hlk hP hS dX5_odds_150 (by have ew : w = 2 ^ rent := (by omega); rw [sp_odds, if_pos hin, rv_oddsum, h0, h1, rv_cln (by omega), rv_cln (by omega), ← ew, ← hsm, ← ht, hs146]; exact ⟨rfl, hy.1, rfl⟩)
      · refine lv_lconst (v := 1) hx hb dX5_odds_66 rfl ?_
        refine lv_lstore (lv' := [(7, .long 1), (0, .ref n), (1, .int o), (2, .long sm), (4, .long t), (6, .int (nI w))]) hx hb dX5_odds_67 hl (by decide) rfl (fun ls hl => ?_)
        refine lv_iconst (v := nI 0) hx hb dX5_odds_69 rfl ?_
        refine lv_istore (lv' := [(9, .int (nI 0)), (7, .long 1), (0, .ref n), (1, .int o), (2, .long sm), (4, .long t), (6, .int (nI w))]) hx hb dX5_odds_70 hl (by decide) rfl (fun ls hl => ?_)
        exact K72 _ 1 0 rfl (by omega) (by omega) rfl ls (lv_sub hl [2, 3, 4, 5, 6, 1, 0] rfl)
  have K31 : ∀ (k31_ : Nat) (t : Int64) (i : Nat) (σ1 : mdT) (H : Heap) (locs : List Loc), rent - i = k31_ → (rv_inI o 0 10 = true) → (i ≤ rent) → (t = rv_ten i) → (mdHandy σ many rent σ1) → mdP dC dI dA n σ1 ab be H → va_S (mdA n) s.heap H locs → ∀ ls, lv_has ls 10 [(0, .ref n), (1, .int o), (2, .long 0), (4, .long t), (6, .int (nI i))] → W p l e { frames := 7, cells := 0, slots := 0, locals := 420 } s m [.ref n, .int o].toArray below meth c H locs 0 0 (MQ below (va_Qi (fun r_ u => r_ = (sp_odds σ ab be o).1 ∧ mdQ (sp_odds σ ab be o).2.1 u.1 ∧ u.2 = (sp_odds σ ab be o).2.2) (mdBL dC dI dA n) (mdA n)) [.ref n, .int o].toArray s 0 0 (mdA n)) (F0 m 31 ls []) := by
    intro k31_
    induction k31_ using Nat.strongRecOn with
    | _ k31_ ih31 =>
      intro t i σ1 H locs hm31_ hin hi ht hy hP hS ls hl
      have h1a : σ1 0 1 = nI rent := by rw [hy.1.1]; exact h1
      have h0a : σ1 0 0 = nI many := by rw [hy.1.1]; exact h0
      have hha : σ1 15 0 = nI rent := hy.2.1
      refine lv_iload hx hb dX5_odds_31 (lv_at hl 4 rfl) ?_
      refine lv_aload_n hx hb dX5_odds_33 rfl (lv_at hl 0 rfl) ?_
      refine md_cSe (As := []) (rest := [.int (nI i)]) C hP (met_renters l dC dI dA n σ1 ab be) card_renters rfl rfl ⟨Nat.le_of_ble_eq_true rfl, Nat.le_of_ble_eq_true rfl⟩ hl.1 (Nat.le_of_ble_eq_true rfl) dX5_odds_34 ?_
      refine rn_co (y := nI rent) h1a ?_
      refine rn_icmp_ge (tgt := 54) hx hb (by omega) (by omega) dX5_odds_37 (by decide) (fun c_37 => ?_) (fun c_37 => ?_)
      · refine lv_iconst (v := nI 0) hx hb dX5_odds_54 rfl ?_
        refine lv_istore (lv' := [(6, .int (nI 0)), (0, .ref n), (1, .int o), (2, .long 0), (4, .long t)]) hx hb dX5_odds_55 hl (by decide) rfl (fun ls hl => ?_)
        exact K57 _ 0 t 0 σ1 _ _ rfl hin (by rw [ht, show i = rent by omega]) (by omega) hy rfl hP hS ls (lv_sub hl [1, 2, 3, 4, 0] rfl)
      · refine lv_lload hx hb dX5_odds_40 (lv_at hl 3 rfl) ?_
        refine lv_ldc2 (v := 10) hx hb hown (hts _ q1223) dX5_odds_42 ?_
        refine lv_lmul hx hb dX5_odds_45 ?_
        refine lv_lstore (lv' := [(4, .long (t * 10)), (0, .ref n), (1, .int o), (2, .long 0), (6, .int (nI i))]) hx hb dX5_odds_46 hl (by decide) rfl (fun ls hl => ?_)
        refine rn_iinc (lv' := [(6, .int (nI (i + 1))), (4, .long (t * 10)), (0, .ref n), (1, .int o), (2, .long 0)]) hx hb dX5_odds_48 hl (k := 4) rfl (by decide) rfl (fun ls hl => ?_)
        refine lv_goto (tgt := 31) hx hb dX5_odds_51 (by decide) ?_
        exact ih31 _ (by omega) (t * 10) (i + 1) σ1 _ _ rfl hin (by omega) (by rw [rv_ten, ← ht]) hy hP hS ls (lv_sub hl [2, 3, 4, 1, 0] rfl)
  refine lv_iload_n hx hb dX5_odds_0 rfl (lv_at hl 1 rfl) ?_
  refine lv_i2l hx hb dX5_odds_1 rfl ?_
  refine lv_lconst (v := 0) hx hb dX5_odds_2 rfl ?_
  refine lv_ldc2 (v := 10) hx hb hown (hts _ q1223) dX5_odds_3 ?_
  refine md_sSe (As := [.long (Int32.toInt64 o), .long 0, .long 10]) (rest := []) C (met_in l (Int32.toInt64 o) 0 10) card_in rfl rfl ⟨Nat.le_of_ble_eq_true rfl, Nat.le_of_ble_eq_true rfl⟩ hl.1 (Nat.le_of_ble_eq_true rfl) dX5_odds_6 ?_
  refine rn_zf (tgt := 19) hx hb dX5_odds_9 (by decide) (fun c_9 => ?_) (fun c_9 => ?_)
  · refine lv_lconst (v := 0) hx hb dX5_odds_19 rfl ?_
    refine lv_lstore_n (lv' := [(2, .long 0), (0, .ref n), (1, .int o)]) hx hb dX5_odds_20 rfl hl (by decide) rfl (fun ls hl => ?_)
    refine lv_lconst (v := 1) hx hb dX5_odds_21 rfl ?_
    refine lv_lstore (lv' := [(4, .long 1), (2, .long 0), (0, .ref n), (1, .int o)]) hx hb dX5_odds_22 hl (by decide) rfl (fun ls hl => ?_)
    refine lv_aload_n hx hb dX5_odds_24 rfl (lv_at hl 2 rfl) ?_
    refine md_cWv (As := []) (rest := []) C hP hS (met_layHand l dC dI dA n σ ab be many h0 hm rent h1 hr6) card_layHand rfl rfl ⟨Nat.le_of_ble_eq_true rfl, Nat.le_of_ble_eq_true rfl⟩ hl.1 (Nat.le_of_ble_eq_true rfl) dX5_odds_25 (fun s25 H locs hs25 hP hS => ?_)
    refine lv_iconst (v := nI 0) hx hb dX5_odds_28 rfl ?_
    refine lv_istore (lv' := [(6, .int (nI 0)), (4, .long 1), (2, .long 0), (0, .ref n), (1, .int o)]) hx hb dX5_odds_29 hl (by decide) rfl (fun ls hl => ?_)
    exact K31 _ 1 0 s25 _ _ rfl c_9 (by omega) rfl hs25.y hP hS ls (lv_sub hl [3, 4, 2, 1, 0] rfl)
  · refine lv_aload_n hx hb dX5_odds_12 rfl (lv_at hl 0 rfl) ?_
    refine lv_bipush (v := (-2)) hx hb dX5_odds_13 rfl ?_
    refine md_cWe (As := [.int (-2)]) (rest := []) C hP hS (met_bad l dC dI dA n σ ab be (-2)) card_bad rfl rfl ⟨Nat.le_of_ble_eq_true rfl, Nat.le_of_ble_eq_true rfl⟩ hl.1 (Nat.le_of_ble_eq_true rfl) dX5_odds_15 (fun H locs hP hS => ?_)
    exact md_rLi C hr hlk hP hS dX5_odds_18 (by rw [sp_odds, if_neg (rv_nf c_9)]; exact ⟨rfl, (mdQ.rf σ).bad (-2), rfl⟩)
def rv_lcg (x : Int64) : Int64 := rv_rem64 (x * 1103515245 + 12345) 2147483648
def rv_dr (w : Int32) (x0 : Int64) : Nat → Int64 × Int32
  | 0 => (x0, 0)
  | r + 1 => (rv_lcg (rv_dr w x0 r).1, (rv_dr w x0 r).2 ||| (if w.toInt64 ≤ rv_rem64 (rv_lcg (rv_dr w x0 r).1 / 65536) 100 then 0 else (1 : Int32) <<< (nI r &&& 31)))
def rv_drawn (f : Nat → Int32) (many rent : Nat) (seed w : Int32) : Nat → Int64 × Int32
  | 0 => (seed.toInt64, 0)
  | k + 1 => ((rv_dr w (rv_drawn f many rent seed w k).1 rent).1, (rv_drawn f many rent seed w k).2 + (rv_comeN f many rent (f 2 + nI k) (rv_dr w (rv_drawn f many rent seed w k).1 rent).2).2.1)
def sp_drawn (σ : mdT) (seed n w : Int32) : Int32 × mdT := if rv_inI seed 0 999999 = true then (if rv_inI n 0 30 = true then (if rv_inI w 0 100 = true then ((rv_drawn (σ 0) (rv_cl (σ 0 0)) (rv_cl (σ 0 1)) seed w (rv_cl n)).2, σ) else sBad (-2) σ) else sBad (-2) σ) else sBad (-2) σ
set_option maxHeartbeats 4000000 in
theorem met_drawn (l : Launch) (dC : Nat → ClassId) (dI : Nat → Nat → Nat) (dA : Nat → ClassId) (n : Nat) (σ : mdT) (ab be : Int64) (sd : Int32) (nn : Int32) (w : Int32) (many : Nat) (h0 : σ 0 0 = nI many) (hm : many ≤ 6) (rent : Nat) (h1 : σ 0 1 = nI rent) (hr6 : rent ≤ 6) : Met l yX5_drawn (ws_ yX5_drawn cX5_drawn 10 (some .int)) { frames := 7, cells := 0, slots := 0, locals := 420 } (mdPc dC dI dA n σ ab be [.ref n, .int sd, .int nn, .int w]) (va_Qi (fun r_ u => r_ = (sp_drawn σ sd nn w).1 ∧ mdQ (sp_drawn σ sd nn w).2 u) (mdB dC dI dA n ab be) (mdA n)) 0 0 (mdA n) := by
  refine md_in (by decide) rfl (Nat.le_of_ble_eq_true rfl) (lv := [(0, .ref n), (1, .int sd), (2, .int nn), (3, .int w)]) rfl ?_
  intro p e s m below meth c C hr hlk hP ls hl
  have hx := C.1
  have hb := C.2.1
  have hown := C.2.2.2.1
  have hts := C.2.2.2.2.1
  have hS : va_S (mdA n) s.heap s.heap [] := va_S.rf
  have K57 : ∀ (k57_ : Nat) (nk : Nat) (x : Int64) (sm : Int32) (k : Nat) (σ1 : mdT) (H : Heap) (locs : List Loc), nk - k = k57_ → (nn = nI nk) → (nk ≤ 30) → (sp_drawn σ sd nn w = ((rv_drawn (σ 0) many rent sd w nk).2, σ)) → (k ≤ nk) → (mdHandy σ many rent σ1) → ((x, sm) = rv_drawn (σ 0) many rent sd w k) → mdP dC dI dA n σ1 ab be H → va_S (mdA n) s.heap H locs → ∀ ls, lv_has ls 10 [(0, .ref n), (1, .int sd), (2, .int nn), (3, .int w), (4, .long x), (6, .int sm), (7, .int (nI k))] → W p l e { frames := 7, cells := 0, slots := 0, locals := 420 } s m [.ref n, .int sd, .int nn, .int w].toArray below meth c H locs 0 0 (MQ below (va_Qi (fun r_ u => r_ = (sp_drawn σ sd nn w).1 ∧ mdQ (sp_drawn σ sd nn w).2 u) (mdB dC dI dA n ab be) (mdA n)) [.ref n, .int sd, .int nn, .int w].toArray s 0 0 (mdA n)) (F0 m 57 ls []) := by
    intro k57_
    induction k57_ using Nat.strongRecOn with
    | _ k57_ ih57 =>
      intro nk x sm k σ1 H locs hm57_ hnk hnk3 U hk hy hd hP hS ls hl
      have h1a : σ1 0 1 = nI rent := by rw [hy.1.1]; exact h1
      have h0a : σ1 0 0 = nI many := by rw [hy.1.1]; exact h0
      have hha : σ1 15 0 = nI rent := hy.2.1
      have K69 : ∀ (k69_ : Nat) (x1 : Int64) (wh : Int32) (r : Nat), rent - r = k69_ → (k < nk) → (r ≤ rent) → ((x1, wh) = rv_dr w x r) → ∀ ls, lv_has ls 10 [(0, .ref n), (1, .int sd), (2, .int nn), (3, .int w), (4, .long x1), (6, .int sm), (7, .int (nI k)), (8, .int wh), (9, .int (nI r))] → W p l e { frames := 7, cells := 0, slots := 0, locals := 420 } s m [.ref n, .int sd, .int nn, .int w].toArray below meth c H locs 0 0 (MQ below (va_Qi (fun r_ u => r_ = (sp_drawn σ sd nn w).1 ∧ mdQ (sp_drawn σ sd nn w).2 u) (mdB dC dI dA n ab be) (mdA n)) [.ref n, .int sd, .int nn, .int w].toArray s 0 0 (mdA n)) (F0 m 69 ls []) := by
        intro k69_
        induction k69_ using Nat.strongRecOn with
        | _ k69_ ih69 =>
          intro x1 wh r hm69_ hkn hr_ hxw ls hl
          refine lv_iload hx hb dX5_drawn_69 (lv_at hl 8 rfl) ?_
          refine lv_aload_n hx hb dX5_drawn_71 rfl (lv_at hl 0 rfl) ?_
          refine md_cSe (As := []) (rest := [.int (nI r)]) C hP (met_renters l dC dI dA n σ1 ab be) card_renters rfl rfl ⟨Nat.le_of_ble_eq_true rfl, Nat.le_of_ble_eq_true rfl⟩ hl.1 (Nat.le_of_ble_eq_true rfl) dX5_drawn_72 ?_
          refine rn_co (y := nI rent) h1a ?_
          refine rn_icmp_ge (tgt := 129) hx hb (by omega) (by omega) dX5_drawn_75 (by decide) (fun c_75 => ?_) (fun c_75 => ?_)
          · refine lv_aload_n hx hb dX5_drawn_129 rfl (lv_at hl 0 rfl) ?_
            refine lv_aload_n hx hb dX5_drawn_130 rfl (lv_at hl 0 rfl) ?_
            refine md_g0 C hP dX5_drawn_131 ?_
            refine lv_iconst (v := nI 2) hx hb dX5_drawn_134 rfl ?_
            refine md_l0 C hP (by omega) dX5_drawn_135 ?_
            refine lv_iload hx hb dX5_drawn_136 (lv_at hl 6 rfl) ?_
            refine lv_iadd hx hb dX5_drawn_138 ?_
            refine lv_iload hx hb dX5_drawn_139 (lv_at hl 7 rfl) ?_
            refine md_cWv (As := [.int ((σ1 0 2) + (nI k)), .int wh]) (rest := []) C hP hS (met_layCome l dC dI dA n σ1 ab be ((σ1 0 2) + (nI k)) wh many h0a hm rent hha (by omega)) card_layCome rfl rfl ⟨Nat.le_of_ble_eq_true rfl, Nat.le_of_ble_eq_true rfl⟩ hl.1 (Nat.le_of_ble_eq_true rfl) dX5_drawn_141 (fun s141 H locs hs141 hP hS => ?_)
            refine lv_iload hx hb dX5_drawn_144 (lv_at hl 5 rfl) ?_
            refine lv_aload_n hx hb dX5_drawn_146 rfl (lv_at hl 0 rfl) ?_
            refine md_g16 C hP dX5_drawn_147 ?_
            refine lv_iadd hx hb dX5_drawn_150 ?_
            refine lv_istore (lv' := [(6, .int (sm + (s141 15 3))), (0, .ref n), (1, .int sd), (2, .int nn), (3, .int w), (4, .long x1), (7, .int (nI k)), (8, .int wh), (9, .int (nI r))]) hx hb dX5_drawn_151 hl (by decide) rfl (fun ls hl => ?_)
            refine rn_iinc (lv' := [(7, .int (nI (k + 1))), (6, .int (sm + (s141 15 3))), (0, .ref n), (1, .int sd), (2, .int nn), (3, .int w), (4, .long x1), (8, .int wh), (9, .int (nI r))]) hx hb dX5_drawn_153 hl (k := 6) rfl (by decide) rfl (fun ls hl => ?_)
            refine lv_goto (tgt := 57) hx hb dX5_drawn_156 (by decide) ?_
            exact ih57 _ (by omega) nk x1 (sm + (s141 15 3)) (k + 1) s141 _ _ rfl hnk (by omega) U (by omega) (hy.come hs141) (by rw [rv_drawn, ← hd]; have er : r = rent := (by omega); subst er; rw [← hxw, (hy.N hm hs141).1, hy.1.1]) hP hS ls (lv_sub hl [2, 3, 4, 5, 6, 1, 0] rfl)
          · refine lv_lload hx hb dX5_drawn_78 (lv_at hl 4 rfl) ?_
            refine lv_ldc2 (v := 1103515245) hx hb hown (hts _ q1235) dX5_drawn_80 ?_
            refine lv_lmul hx hb dX5_drawn_83 ?_
            refine lv_ldc2 (v := 12345) hx hb hown (hts _ q1236) dX5_drawn_84 ?_
            refine lv_ladd hx hb dX5_drawn_87 ?_
            refine lv_ldc2 (v := 2147483648) hx hb hown (hts _ q1237) dX5_drawn_88 ?_
            refine lv_lrem hx hb dX5_drawn_91 (by decide) ?_
            refine lv_lstore (lv' := [(4, .long (((x1 * 1103515245) + 12345) - ((x1 * 1103515245) + 12345) / 2147483648 * 2147483648)), (0, .ref n), (1, .int sd), (2, .int nn), (3, .int w), (6, .int sm), (7, .int (nI k)), (8, .int wh), (9, .int (nI r))]) hx hb dX5_drawn_92 hl (by decide) rfl (fun ls hl => ?_)
            refine lv_iload hx hb dX5_drawn_94 (lv_at hl 7 rfl) ?_
            refine lv_lload hx hb dX5_drawn_96 (lv_at hl 0 rfl) ?_
            refine lv_ldc2 (v := 65536) hx hb hown (hts _ q1238) dX5_drawn_98 ?_
            refine lv_ldiv hx hb dX5_drawn_101 (by decide) ?_
            refine lv_ldc2 (v := 100) hx hb hown (hts _ q1234) dX5_drawn_102 ?_
            refine lv_lrem hx hb dX5_drawn_105 (by decide) ?_
            refine lv_iload_n hx hb dX5_drawn_106 rfl (lv_at hl 4 rfl) ?_
            refine lv_i2l hx hb dX5_drawn_107 rfl ?_
            refine rn_lcmp_ge (tgt := 119) hx hb dX5_drawn_108 dX5_drawn_109 (by decide) (fun c_108 => ?_) (fun c_108 => ?_)
            · refine lv_iconst (v := nI 0) hx hb dX5_drawn_119 rfl ?_
              refine lv_ior hx hb dX5_drawn_120 ?_
              refine lv_istore (lv' := [(8, .int (wh ||| 0)), (4, .long (((x1 * 1103515245) + 12345) - ((x1 * 1103515245) + 12345) / 2147483648 * 2147483648)), (0, .ref n), (1, .int sd), (2, .int nn), (3, .int w), (6, .int sm), (7, .int (nI k)), (9, .int (nI r))]) hx hb dX5_drawn_121 hl (by decide) rfl (fun ls hl => ?_)
              refine rn_iinc (lv' := [(9, .int (nI (r + 1))), (8, .int (wh ||| 0)), (4, .long (((x1 * 1103515245) + 12345) - ((x1 * 1103515245) + 12345) / 2147483648 * 2147483648)), (0, .ref n), (1, .int sd), (2, .int nn), (3, .int w), (6, .int sm), (7, .int (nI k))]) hx hb dX5_drawn_123 hl (k := 8) rfl (by decide) rfl (fun ls hl => ?_)
              refine lv_goto (tgt := 69) hx hb dX5_drawn_126 (by decide) ?_
              exact ih69 _ (by omega) (((x1 * 1103515245) + 12345) - ((x1 * 1103515245) + 12345) / 2147483648 * 2147483648) (wh ||| 0) (r + 1) rfl hkn (by omega) (by rw [rv_dr, ← hxw]; show (rv_lcg x1, _) = (rv_lcg x1, wh ||| if w.toInt64 ≤ rv_rem64 (rv_lcg x1 / 65536) 100 then 0 else (1 : Int32) <<< (nI r &&& 31)); first | rw [if_pos (show w.toInt64 ≤ rv_rem64 (rv_lcg x1 / 65536) 100 from c_108)] | rw [if_neg (Int64.not_le.mpr (show rv_rem64 (rv_lcg x1 / 65536) 100 < w.toInt64 from c_108))]) ls (lv_sub hl [3, 4, 5, 6, 2, 7, 8, 1, 0] rfl)
            · refine lv_iconst (v := nI 1) hx hb dX5_drawn_112 rfl ?_
              refine lv_iload hx hb dX5_drawn_113 (lv_at hl 8 rfl) ?_
              refine lv_ishl hx hb dX5_drawn_115 ?_
              refine lv_goto (tgt := 120) hx hb dX5_drawn_116 (by decide) ?_
              refine lv_ior hx hb dX5_drawn_120 ?_
              refine lv_istore (lv' := [(8, .int (wh ||| (1 <<< ((nI r) &&& 31)))), (4, .long (((x1 * 1103515245) + 12345) - ((x1 * 1103515245) + 12345) / 2147483648 * 2147483648)), (0, .ref n), (1, .int sd), (2, .int nn), (3, .int w), (6, .int sm), (7, .int (nI k)), (9, .int (nI r))]) hx hb dX5_drawn_121 hl (by decide) rfl (fun ls hl => ?_)
              refine rn_iinc (lv' := [(9, .int (nI (r + 1))), (8, .int (wh ||| (1 <<< ((nI r) &&& 31)))), (4, .long (((x1 * 1103515245) + 12345) - ((x1 * 1103515245) + 12345) / 2147483648 * 2147483648)), (0, .ref n), (1, .int sd), (2, .int nn), (3, .int w), (6, .int sm), (7, .int (nI k))]) hx hb dX5_drawn_123 hl (k := 8) rfl (by decide) rfl (fun ls hl => ?_)
              refine lv_goto (tgt := 69) hx hb dX5_drawn_126 (by decide) ?_
              exact ih69 _ (by omega) (((x1 * 1103515245) + 12345) - ((x1 * 1103515245) + 12345) / 2147483648 * 2147483648) (wh ||| (1 <<< ((nI r) &&& 31))) (r + 1) rfl hkn (by omega) (by rw [rv_dr, ← hxw]; show (rv_lcg x1, _) = (rv_lcg x1, wh ||| if w.toInt64 ≤ rv_rem64 (rv_lcg x1 / 65536) 100 then 0 else (1 : Int32) <<< (nI r &&& 31)); first | rw [if_pos (show w.toInt64 ≤ rv_rem64 (rv_lcg x1 / 65536) 100 from c_108)] | rw [if_neg (Int64.not_le.mpr (show rv_rem64 (rv_lcg x1 / 65536) 100 < w.toInt64 from c_108))]) ls (lv_sub hl [3, 4, 5, 6, 2, 7, 8, 1, 0] rfl)
      refine lv_iload hx hb dX5_drawn_57 (lv_at hl 6 rfl) ?_
      refine lv_iload_n hx hb dX5_drawn_59 rfl (lv_at hl 2 rfl) ?_
      refine rn_co (y := nI nk) hnk ?_
      refine rn_icmp_ge (tgt := 159) hx hb (by omega) (by omega) dX5_drawn_60 (by decide) (fun c_60 => ?_) (fun c_60 => ?_)
      · refine lv_iload hx hb dX5_drawn_159 (lv_at hl 5 rfl) ?_
        exact md_ri C hr hlk hP hS dX5_drawn_161 (by rw [U, show nk = k by omega, ← hd]; exact ⟨rfl, hy.1⟩)
      · refine lv_iconst (v := nI 0) hx hb dX5_drawn_63 rfl ?_
        refine lv_istore (lv' := [(8, .int (nI 0)), (0, .ref n), (1, .int sd), (2, .int nn), (3, .int w), (4, .long x), (6, .int sm), (7, .int (nI k))]) hx hb dX5_drawn_64 hl (by decide) rfl (fun ls hl => ?_)
        refine lv_iconst (v := nI 0) hx hb dX5_drawn_66 rfl ?_
        refine lv_istore (lv' := [(9, .int (nI 0)), (8, .int (nI 0)), (0, .ref n), (1, .int sd), (2, .int nn), (3, .int w), (4, .long x), (6, .int sm), (7, .int (nI k))]) hx hb dX5_drawn_67 hl (by decide) rfl (fun ls hl => ?_)
        exact K69 _ x (nI 0) 0 rfl c_60 (by omega) rfl ls (lv_sub hl [2, 3, 4, 5, 6, 7, 8, 1, 0] rfl)
  refine lv_iload_n hx hb dX5_drawn_0 rfl (lv_at hl 1 rfl) ?_
  refine lv_i2l hx hb dX5_drawn_1 rfl ?_
  refine lv_lconst (v := 0) hx hb dX5_drawn_2 rfl ?_
  refine lv_ldc2 (v := 999999) hx hb hown (hts _ q1232) dX5_drawn_3 ?_
  refine md_sSe (As := [.long (Int32.toInt64 sd), .long 0, .long 999999]) (rest := []) C (met_in l (Int32.toInt64 sd) 0 999999) card_in rfl rfl ⟨Nat.le_of_ble_eq_true rfl, Nat.le_of_ble_eq_true rfl⟩ hl.1 (Nat.le_of_ble_eq_true rfl) dX5_drawn_6 ?_
  refine rn_zt (tgt := 36) hx hb dX5_drawn_9 (by decide) (fun c_9 => ?_) (fun c_9 => ?_)
  · refine lv_aload_n hx hb dX5_drawn_36 rfl (lv_at hl 0 rfl) ?_
    refine lv_bipush (v := (-2)) hx hb dX5_drawn_37 rfl ?_
    refine md_cWe (As := [.int (-2)]) (rest := []) C hP hS (met_bad l dC dI dA n σ ab be (-2)) card_bad rfl rfl ⟨Nat.le_of_ble_eq_true rfl, Nat.le_of_ble_eq_true rfl⟩ hl.1 (Nat.le_of_ble_eq_true rfl) dX5_drawn_39 (fun H locs hP hS => ?_)
    exact md_ri C hr hlk hP hS dX5_drawn_42 (by first | (rw [sp_drawn, if_neg (rv_nf c_9)]; exact ⟨rfl, (mdQ.rf σ).bad _⟩) | (rw [sp_drawn, if_pos c_9, if_neg (rv_nf c_21)]; exact ⟨rfl, (mdQ.rf σ).bad _⟩) | (rw [sp_drawn, if_pos c_9, if_pos c_21, if_neg (rv_nf c_33)]; exact ⟨rfl, (mdQ.rf σ).bad _⟩))
  · refine lv_iload_n hx hb dX5_drawn_12 rfl (lv_at hl 2 rfl) ?_
    refine lv_i2l hx hb dX5_drawn_13 rfl ?_
    refine lv_lconst (v := 0) hx hb dX5_drawn_14 rfl ?_
    refine lv_ldc2 (v := 30) hx hb hown (hts _ q1233) dX5_drawn_15 ?_
    refine md_sSe (As := [.long (Int32.toInt64 nn), .long 0, .long 30]) (rest := []) C (met_in l (Int32.toInt64 nn) 0 30) card_in rfl rfl ⟨Nat.le_of_ble_eq_true rfl, Nat.le_of_ble_eq_true rfl⟩ hl.1 (Nat.le_of_ble_eq_true rfl) dX5_drawn_18 ?_
    refine rn_zt (tgt := 36) hx hb dX5_drawn_21 (by decide) (fun c_21 => ?_) (fun c_21 => ?_)
    · refine lv_aload_n hx hb dX5_drawn_36 rfl (lv_at hl 0 rfl) ?_
      refine lv_bipush (v := (-2)) hx hb dX5_drawn_37 rfl ?_
      refine md_cWe (As := [.int (-2)]) (rest := []) C hP hS (met_bad l dC dI dA n σ ab be (-2)) card_bad rfl rfl ⟨Nat.le_of_ble_eq_true rfl, Nat.le_of_ble_eq_true rfl⟩ hl.1 (Nat.le_of_ble_eq_true rfl) dX5_drawn_39 (fun H locs hP hS => ?_)
      exact md_ri C hr hlk hP hS dX5_drawn_42 (by first | (rw [sp_drawn, if_neg (rv_nf c_9)]; exact ⟨rfl, (mdQ.rf σ).bad _⟩) | (rw [sp_drawn, if_pos c_9, if_neg (rv_nf c_21)]; exact ⟨rfl, (mdQ.rf σ).bad _⟩) | (rw [sp_drawn, if_pos c_9, if_pos c_21, if_neg (rv_nf c_33)]; exact ⟨rfl, (mdQ.rf σ).bad _⟩))
    · refine lv_iload_n hx hb dX5_drawn_24 rfl (lv_at hl 3 rfl) ?_
      refine lv_i2l hx hb dX5_drawn_25 rfl ?_
      refine lv_lconst (v := 0) hx hb dX5_drawn_26 rfl ?_
      refine lv_ldc2 (v := 100) hx hb hown (hts _ q1234) dX5_drawn_27 ?_
      refine md_sSe (As := [.long (Int32.toInt64 w), .long 0, .long 100]) (rest := []) C (met_in l (Int32.toInt64 w) 0 100) card_in rfl rfl ⟨Nat.le_of_ble_eq_true rfl, Nat.le_of_ble_eq_true rfl⟩ hl.1 (Nat.le_of_ble_eq_true rfl) dX5_drawn_30 ?_
      refine rn_zf (tgt := 43) hx hb dX5_drawn_33 (by decide) (fun c_33 => ?_) (fun c_33 => ?_)
      · obtain ⟨nk, hnk3, hnk⟩ := rv_inIx (v := nn) 30 rfl (by omega) c_21
        have U : sp_drawn σ sd nn w = ((rv_drawn (σ 0) many rent sd w nk).2, σ) := by rw [sp_drawn, if_pos c_9, if_pos c_21, if_pos c_33, h0, h1, hnk, rv_cln (by omega), rv_cln (by omega), rv_cln (by omega)]
        refine lv_iload_n hx hb dX5_drawn_43 rfl (lv_at hl 1 rfl) ?_
        refine lv_i2l hx hb dX5_drawn_44 rfl ?_
        refine lv_lstore (lv' := [(4, .long (Int32.toInt64 sd)), (0, .ref n), (1, .int sd), (2, .int nn), (3, .int w)]) hx hb dX5_drawn_45 hl (by decide) rfl (fun ls hl => ?_)
        refine lv_iconst (v := nI 0) hx hb dX5_drawn_47 rfl ?_
        refine lv_istore (lv' := [(6, .int (nI 0)), (4, .long (Int32.toInt64 sd)), (0, .ref n), (1, .int sd), (2, .int nn), (3, .int w)]) hx hb dX5_drawn_48 hl (by decide) rfl (fun ls hl => ?_)
        refine lv_aload_n hx hb dX5_drawn_50 rfl (lv_at hl 2 rfl) ?_
        refine md_cWv (As := []) (rest := []) C hP hS (met_layHand l dC dI dA n σ ab be many h0 hm rent h1 hr6) card_layHand rfl rfl ⟨Nat.le_of_ble_eq_true rfl, Nat.le_of_ble_eq_true rfl⟩ hl.1 (Nat.le_of_ble_eq_true rfl) dX5_drawn_51 (fun s51 H locs hs51 hP hS => ?_)
        refine lv_iconst (v := nI 0) hx hb dX5_drawn_54 rfl ?_
        refine lv_istore (lv' := [(7, .int (nI 0)), (6, .int (nI 0)), (4, .long (Int32.toInt64 sd)), (0, .ref n), (1, .int sd), (2, .int nn), (3, .int w)]) hx hb dX5_drawn_55 hl (by decide) rfl (fun ls hl => ?_)
        exact K57 _ nk (Int32.toInt64 sd) (nI 0) 0 s51 _ _ rfl hnk (by omega) U (by omega) hs51.y rfl hP hS ls (lv_sub hl [3, 4, 5, 6, 2, 1, 0] rfl)
      · refine lv_aload_n hx hb dX5_drawn_36 rfl (lv_at hl 0 rfl) ?_
        refine lv_bipush (v := (-2)) hx hb dX5_drawn_37 rfl ?_
        refine md_cWe (As := [.int (-2)]) (rest := []) C hP hS (met_bad l dC dI dA n σ ab be (-2)) card_bad rfl rfl ⟨Nat.le_of_ble_eq_true rfl, Nat.le_of_ble_eq_true rfl⟩ hl.1 (Nat.le_of_ble_eq_true rfl) dX5_drawn_39 (fun H locs hP hS => ?_)
        exact md_ri C hr hlk hP hS dX5_drawn_42 (by first | (rw [sp_drawn, if_neg (rv_nf c_9)]; exact ⟨rfl, (mdQ.rf σ).bad _⟩) | (rw [sp_drawn, if_pos c_9, if_neg (rv_nf c_21)]; exact ⟨rfl, (mdQ.rf σ).bad _⟩) | (rw [sp_drawn, if_pos c_9, if_pos c_21, if_neg (rv_nf c_33)]; exact ⟨rfl, (mdQ.rf σ).bad _⟩))
