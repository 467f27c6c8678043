set_option maxRecDepth 100000
/-! the Model: rows judged -/
theorem met_nextView (l : Launch) (dC : Nat → ClassId) (dI : Nat → Nat → Nat) (dA : Nat → ClassId) (n : Nat) (σ : mdT) (ab be : Int64) (bh : Int32) (may : Int32) (many : Nat) (h0 : σ 0 0 = nI many) (hm : many ≤ 6) (c_ : Nat) (hc : bh + 1 = nI c_) (hcm : c_ ≤ many) : Met l yX5_nextView (ws_ yX5_nextView cX5_nextView 4 (some .int)) { frames := 2, cells := 0, slots := 0, locals := 120 } (mdPc dC dI dA n σ ab be [.ref n, .int bh, .int may]) (vp_Si (fun r_ => r_ = (nI (rv_nx (bt may) (many - c_) c_)))) 0 0 (fun _ => False) := by
  refine md_in (by decide) rfl (Nat.le_of_ble_eq_true rfl) (lv := [(0, .ref n), (1, .int bh), (2, .int may)]) rfl ?_
  intro p e s m below meth c C hr hlk hP ls hl
  have hx := C.1
  have hb := C.2.1
  have hown := C.2.2.2.1
  have hts := C.2.2.2.2.1
  have K4 : ∀ (k4_ : Nat) (i : Nat), many - i = k4_ → (i ≤ many) → (rv_nx (bt may) (many - i) i = rv_nx (bt may) (many - c_) c_) → ∀ ls, lv_has ls 4 [(0, .ref n), (1, .int bh), (2, .int may), (3, .int (nI i))] → W p l e { frames := 2, cells := 0, slots := 0, locals := 120 } s m [.ref n, .int bh, .int may].toArray below meth c s.heap [] 0 0 (MQ below (vp_Si (fun r_ => r_ = (nI (rv_nx (bt may) (many - c_) c_)))) [.ref n, .int bh, .int may].toArray s 0 0 (fun _ => False)) (F0 m 4 ls []) := by
    intro k4_
    induction k4_ using Nat.strongRecOn with
    | _ k4_ ih4 =>
      intro i hm4_ hi hx_ ls hl
      refine lv_iload_n hx hb dX5_nextView_4 rfl (lv_at hl 3 rfl) ?_
      refine lv_aload_n hx hb dX5_nextView_5 rfl (lv_at hl 0 rfl) ?_
      refine md_cSe (As := []) (rest := [.int (nI i)]) C hP (met_views l dC dI dA n σ ab be) card_views rfl rfl ⟨Nat.le_of_ble_eq_true rfl, Nat.le_of_ble_eq_true rfl⟩ hl.1 (Nat.le_of_ble_eq_true rfl) dX5_nextView_6 ?_
      refine rn_co (y := nI many) h0 ?_
      refine rn_icmp_ge (tgt := 26) hx hb (by omega) (by omega) dX5_nextView_9 (by decide) (fun c_9 => ?_) (fun c_9 => ?_)
      · refine lv_iload_n hx hb dX5_nextView_26 rfl (lv_at hl 3 rfl) ?_
        exact rv_ri hx hb hr hlk dX5_nextView_27 (by first | (rw [← hx_, show many - i = 0 by omega]; rfl) | (rw [← hx_, show many - i = (many - (i + 1)) + 1 by omega, rv_nx, if_pos (show bt may i = true from (Bool.not_eq_false _).mp (fun z => c_17 ((b_low0 (by omega)).mpr z)))]))
      · refine lv_iload_n hx hb dX5_nextView_12 rfl (lv_at hl 2 rfl) ?_
        refine lv_iload_n hx hb dX5_nextView_13 rfl (lv_at hl 3 rfl) ?_
        refine lv_ishr hx hb dX5_nextView_14 ?_
        refine lv_iconst (v := nI 1) hx hb dX5_nextView_15 rfl ?_
        refine lv_iand hx hb dX5_nextView_16 ?_
        refine lv_if_ne (tgt := 26) hx hb dX5_nextView_17 (by decide) (fun (c_17 : ¬ (may >>> ((nI i) &&& 31)) &&& 1 = 0) => ?_) (fun (c_17 : (may >>> ((nI i) &&& 31)) &&& 1 = 0) => ?_)
        · refine lv_iload_n hx hb dX5_nextView_26 rfl (lv_at hl 3 rfl) ?_
          exact rv_ri hx hb hr hlk dX5_nextView_27 (by first | (rw [← hx_, show many - i = 0 by omega]; rfl) | (rw [← hx_, show many - i = (many - (i + 1)) + 1 by omega, rv_nx, if_pos (show bt may i = true from (Bool.not_eq_false _).mp (fun z => c_17 ((b_low0 (by omega)).mpr z)))]))
        · refine rn_iinc (lv' := [(3, .int (nI (i + 1))), (0, .ref n), (1, .int bh), (2, .int may)]) hx hb dX5_nextView_20 hl (k := 3) rfl (by decide) rfl (fun ls hl => ?_)
          refine lv_goto (tgt := 4) hx hb dX5_nextView_23 (by decide) ?_
          exact ih4 _ (by omega) (i + 1) rfl (by omega) (by rw [← hx_, show many - i = (many - (i + 1)) + 1 by omega, rv_nx, if_neg (rv_nf ((b_low0 (by omega)).mp c_17))]) ls (lv_sub hl [1, 2, 3, 0] rfl)
  refine lv_iload_n hx hb dX5_nextView_0 rfl (lv_at hl 1 rfl) ?_
  refine lv_iconst (v := nI 1) hx hb dX5_nextView_1 rfl ?_
  refine lv_iadd hx hb dX5_nextView_2 ?_
  refine rn_co (y := nI c_) hc ?_
  refine lv_istore_n (lv' := [(3, .int (nI c_)), (0, .ref n), (1, .int bh), (2, .int may)]) hx hb dX5_nextView_3 rfl hl (by decide) rfl (fun ls hl => ?_)
  exact K4 _ c_ rfl hcm rfl ls (lv_sub hl [1, 2, 3, 0] rfl)
theorem met_freeBut (l : Launch) (dC : Nat → ClassId) (dI : Nat → Nat → Nat) (dA : Nat → ClassId) (n : Nat) (σ : mdT) (ab be : Int64) (r : Nat) (many : Nat) (h0 : σ 0 0 = nI many) (hm : many ≤ 6) (hr7 : r ≤ 7) : Met l yX5_freeBut (ws_ yX5_freeBut cX5_freeBut 4 (some .int)) { frames := 2, cells := 0, slots := 0, locals := 120 } (mdPc dC dI dA n σ ab be [.ref n, .int (nI r)]) (vp_Si (fun r_ => r_ = (rv_fb (σ 9) many r))) 0 0 (fun _ => False) := by
  refine md_in (by decide) rfl (Nat.le_of_ble_eq_true rfl) (lv := [(0, .ref n), (1, .int (nI r))]) rfl ?_
  intro p e s m below meth c C hr hlk hP ls hl
  have hx := C.1
  have hb := C.2.1
  have hown := C.2.2.2.1
  have hts := C.2.2.2.2.1
  have K11 : ∀ (k11_ : Nat) (fr : Int32) (i : Nat), r - i = k11_ → (i ≤ r) → (fr = rv_fb (σ 9) many i) → ∀ ls, lv_has ls 4 [(0, .ref n), (1, .int (nI r)), (2, .int fr), (3, .int (nI i))] → W p l e { frames := 2, cells := 0, slots := 0, locals := 120 } s m [.ref n, .int (nI r)].toArray below meth c s.heap [] 0 0 (MQ below (vp_Si (fun r_ => r_ = (rv_fb (σ 9) many r))) [.ref n, .int (nI r)].toArray s 0 0 (fun _ => False)) (F0 m 11 ls []) := by
    intro k11_
    induction k11_ using Nat.strongRecOn with
    | _ k11_ ih11 =>
      intro fr i hm11_ hi hf ls hl
      refine lv_iload_n hx hb dX5_freeBut_11 rfl (lv_at hl 3 rfl) ?_
      refine lv_iload_n hx hb dX5_freeBut_12 rfl (lv_at hl 1 rfl) ?_
      refine rn_icmp_ge (tgt := 49) hx hb (by omega) (by omega) dX5_freeBut_13 (by decide) (fun c_13 => ?_) (fun c_13 => ?_)
      · refine lv_iload_n hx hb dX5_freeBut_49 rfl (lv_at hl 2 rfl) ?_
        exact rv_ri hx hb hr hlk dX5_freeBut_50 (by rw [hf, show i = r by omega])
      · refine lv_iload_n hx hb dX5_freeBut_16 rfl (lv_at hl 2 rfl) ?_
        refine lv_aload_n hx hb dX5_freeBut_17 rfl (lv_at hl 0 rfl) ?_
        refine md_g12 C hP dX5_freeBut_18 ?_
        refine lv_iload_n hx hb dX5_freeBut_21 rfl (lv_at hl 3 rfl) ?_
        refine md_l9 C hP (by omega) dX5_freeBut_22 ?_
        refine lv_iconst (v := (-1)) hx hb dX5_freeBut_23 rfl ?_
        refine lv_icmp_ne (tgt := 31) hx hb dX5_freeBut_24 (by decide) (fun (c_24 : ¬ σ 9 i = (-1)) => ?_) (fun (c_24 : σ 9 i = (-1)) => ?_)
        · refine lv_iconst (v := nI 1) hx hb dX5_freeBut_31 rfl ?_
          refine lv_aload_n hx hb dX5_freeBut_32 rfl (lv_at hl 0 rfl) ?_
          refine md_g12 C hP dX5_freeBut_33 ?_
          refine lv_iload_n hx hb dX5_freeBut_36 rfl (lv_at hl 3 rfl) ?_
          refine md_l9 C hP (by omega) dX5_freeBut_37 ?_
          refine lv_ishl hx hb dX5_freeBut_38 ?_
          refine lv_iconst (v := (-1)) hx hb dX5_freeBut_39 rfl ?_
          refine lv_ixor hx hb dX5_freeBut_40 ?_
          refine lv_iand hx hb dX5_freeBut_41 ?_
          refine lv_istore_n (lv' := [(2, .int (fr &&& ((1 <<< ((σ 9 i) &&& 31)) ^^^ (-1)))), (0, .ref n), (1, .int (nI r)), (3, .int (nI i))]) hx hb dX5_freeBut_42 rfl hl (by decide) rfl (fun ls hl => ?_)
          refine rn_iinc (lv' := [(3, .int (nI (i + 1))), (2, .int (fr &&& ((1 <<< ((σ 9 i) &&& 31)) ^^^ (-1)))), (0, .ref n), (1, .int (nI r))]) hx hb dX5_freeBut_43 hl (k := 3) rfl (by decide) rfl (fun ls hl => ?_)
          refine lv_goto (tgt := 11) hx hb dX5_freeBut_46 (by decide) ?_
          exact ih11 _ (by omega) (fr &&& ((1 <<< ((σ 9 i) &&& 31)) ^^^ (-1))) (i + 1) rfl (by omega) (by rw [rv_fb, ← hf]; first | rw [if_pos c_24] | rw [if_neg c_24]) ls (lv_sub hl [2, 3, 1, 0] rfl)
        · refine lv_iconst (v := (-1)) hx hb dX5_freeBut_27 rfl ?_
          refine lv_goto (tgt := 41) hx hb dX5_freeBut_28 (by decide) ?_
          refine lv_iand hx hb dX5_freeBut_41 ?_
          refine lv_istore_n (lv' := [(2, .int (fr &&& (-1))), (0, .ref n), (1, .int (nI r)), (3, .int (nI i))]) hx hb dX5_freeBut_42 rfl hl (by decide) rfl (fun ls hl => ?_)
          refine rn_iinc (lv' := [(3, .int (nI (i + 1))), (2, .int (fr &&& (-1))), (0, .ref n), (1, .int (nI r))]) hx hb dX5_freeBut_43 hl (k := 3) rfl (by decide) rfl (fun ls hl => ?_)
          refine lv_goto (tgt := 11) hx hb dX5_freeBut_46 (by decide) ?_
          exact ih11 _ (by omega) (fr &&& (-1)) (i + 1) rfl (by omega) (by rw [rv_fb, ← hf]; first | rw [if_pos c_24] | rw [if_neg c_24]) ls (lv_sub hl [2, 3, 1, 0] rfl)
  refine lv_iconst (v := nI 1) hx hb dX5_freeBut_0 rfl ?_
  refine lv_aload_n hx hb dX5_freeBut_1 rfl (lv_at hl 0 rfl) ?_
  refine md_cSe (As := []) (rest := [.int (nI 1)]) C hP (met_views l dC dI dA n σ ab be) card_views rfl rfl ⟨Nat.le_of_ble_eq_true rfl, Nat.le_of_ble_eq_true rfl⟩ hl.1 (Nat.le_of_ble_eq_true rfl) dX5_freeBut_2 ?_
  refine rn_co (y := nI many) h0 ?_
  refine lv_ishl hx hb dX5_freeBut_5 ?_
  refine lv_iconst (v := nI 1) hx hb dX5_freeBut_6 rfl ?_
  refine lv_isub hx hb dX5_freeBut_7 ?_
  refine lv_istore_n (lv' := [(2, .int ((1 <<< ((nI many) &&& 31)) - 1)), (0, .ref n), (1, .int (nI r))]) hx hb dX5_freeBut_8 rfl hl (by decide) rfl (fun ls hl => ?_)
  refine lv_iconst (v := nI 0) hx hb dX5_freeBut_9 rfl ?_
  refine lv_istore_n (lv' := [(3, .int (nI 0)), (2, .int ((1 <<< ((nI many) &&& 31)) - 1)), (0, .ref n), (1, .int (nI r))]) hx hb dX5_freeBut_10 rfl hl (by decide) rfl (fun ls hl => ?_)
  exact K11 _ ((1 <<< ((nI many) &&& 31)) - 1) 0 rfl (by omega) rfl ls (lv_sub hl [2, 3, 1, 0] rfl)
set_option maxHeartbeats 1000000 in
theorem met_judgeRow (l : Launch) (dC : Nat → ClassId) (dI : Nat → Nat → Nat) (dA : Nat → ClassId) (n : Nat) (σ : mdT) (ab be : Int64) (hand : Nat) (hh : σ 15 0 = nI hand) (hh7 : hand ≤ 7) (B : rvB) (hB : mdBst hand σ B) (hok : rv_okrow 6 (σ 9) hand) : Met l yX5_judgeRow (ws_ yX5_judgeRow cX5_judgeRow 4 none) { frames := 1, cells := 0, slots := 0, locals := 60 } (mdPc dC dI dA n σ ab be [.ref n]) (va_Qv (fun u => (∀ a, a ≠ 10 → a ≠ 15 → u a = σ a) ∧ (∀ j, j ≠ 1 → j ≠ 2 → u 15 j = σ 15 j) ∧ mdBst hand u (rv_judge (σ 4) hand (σ 9) B)) (mdB dC dI dA n ab be) (mdA n)) 0 0 (mdA n) := by
  refine md_in (by decide) rfl (Nat.le_of_ble_eq_true rfl) (lv := [(0, .ref n)]) rfl ?_
  intro p e s m below meth c C hr hlk hP ls hl
  have hx := C.1
  have hb := C.2.1
  have hown := C.2.2.2.1
  have hts := C.2.2.2.2.1
  have hS : va_S (mdA n) s.heap s.heap [] := va_S.rf
  have K102 : ∀ (k102_ : Nat) (i : Nat) (σ1 : mdT) (H : Heap) (locs : List Loc), hand - i = k102_ → (i ≤ hand) → (rv_judge (σ 4) hand (σ 9) B = (rv_cntr (σ 9) hand, rv_monr (σ 4) (σ 9) hand, fun i => if i < hand then σ 9 i else 0)) → (∀ a, a ≠ 10 → a ≠ 15 → σ1 a = σ a) → (∀ j, j ≠ 1 → j ≠ 2 → σ1 15 j = σ 15 j) → (σ1 15 1 = rv_cntr (σ 9) hand) → (σ1 15 2 = rv_monr (σ 4) (σ 9) hand) → (∀ j, j < i → σ1 10 j = σ 9 j) → mdP dC dI dA n σ1 ab be H → va_S (mdA n) s.heap H locs → ∀ ls, lv_has ls 4 [(0, .ref n), (3, .int (nI i))] → W p l e { frames := 1, cells := 0, slots := 0, locals := 60 } s m [.ref n].toArray below meth c H locs 0 0 (MQ below (va_Qv (fun u => (∀ a, a ≠ 10 → a ≠ 15 → u a = σ a) ∧ (∀ j, j ≠ 1 → j ≠ 2 → u 15 j = σ 15 j) ∧ mdBst hand u (rv_judge (σ 4) hand (σ 9) B)) (mdB dC dI dA n ab be) (mdA n)) [.ref n].toArray s 0 0 (mdA n)) (F0 m 102 ls []) := by
    intro k102_
    induction k102_ using Nat.strongRecOn with
    | _ k102_ ih102 =>
      intro i σ1 H locs hm102_ hi hJ ho hk e1 e2 hw hP hS ls hl
      have hha : σ1 15 0 = nI hand := by rw [hk 0 (by decide) (by decide)]; exact hh
      refine lv_iload_n hx hb dX5_judgeRow_102 rfl (lv_at hl 1 rfl) ?_
      refine lv_aload_n hx hb dX5_judgeRow_103 rfl (lv_at hl 0 rfl) ?_
      refine md_g7 C hP dX5_judgeRow_104 ?_
      refine rn_co (y := nI hand) hha ?_
      refine rn_icmp_ge (tgt := 128) hx hb (by omega) (by omega) dX5_judgeRow_107 (by decide) (fun c_107 => ?_) (fun c_107 => ?_)
      · exact md_rv C hr hlk hP hS dX5_judgeRow_128 (by first | exact ⟨ho, hk, by rw [hJ]; exact ⟨e1, e2, fun j hj => by rw [hw j (by omega)]; exact (if_pos hj).symm⟩⟩ | (refine ⟨fun _ _ _ => rfl, fun _ _ _ => rfl, ?_⟩; have ei : i = hand := (by omega); subst ei; unfold rv_judge; rw [← hmn, ← hmo, ← hB.1, ← hB.2.1, if_neg c_71]; first | (rw [if_neg c_79]; exact hB) | (rw [if_pos c_79, if_pos c_87]; exact hB)))
      · refine lv_aload_n hx hb dX5_judgeRow_110 rfl (lv_at hl 0 rfl) ?_
        refine md_g13 C hP dX5_judgeRow_111 ?_
        refine lv_iload_n hx hb dX5_judgeRow_114 rfl (lv_at hl 1 rfl) ?_
        refine lv_aload_n hx hb dX5_judgeRow_115 rfl (lv_at hl 0 rfl) ?_
        refine md_g12 C hP dX5_judgeRow_116 ?_
        refine lv_iload_n hx hb dX5_judgeRow_119 rfl (lv_at hl 1 rfl) ?_
        refine md_l9 C hP (by omega) dX5_judgeRow_120 ?_
        refine md_s10 C hP hS (by omega) dX5_judgeRow_121 (fun H locs hP hS => ?_)
        refine rn_iinc (lv' := [(3, .int (nI (i + 1))), (0, .ref n)]) hx hb dX5_judgeRow_122 hl (k := 1) rfl (by decide) rfl (fun ls hl => ?_)
        refine lv_goto (tgt := 102) hx hb dX5_judgeRow_125 (by decide) ?_
        exact ih102 _ (by omega) (i + 1) (mdS σ1 10 i (σ1 9 i)) _ _ rfl (by omega) hJ (fun a h1 h2 => by rw [mdS_row _ _ _ h1]; exact ho a h1 h2) (fun j h1 h2 => by rw [mdS_o _ (by decide)]; exact hk j h1 h2) (by rw [mdS_o _ (by decide)]; exact e1) (by rw [mdS_o _ (by decide)]; exact e2) (rv_step2 hw (fun j hj h => by rw [mdS_ne (by omega)]; exact h) (by rw [mdS_eq, ho 9 (by decide) (by decide)])) hP hS ls (lv_sub hl [1, 0] rfl)
  have K6 : ∀ (k6_ : Nat) (mn : Int32) (mo : Int32) (i : Nat), hand - i = k6_ → (i ≤ hand) → (mn = rv_cntr (σ 9) i) → (mo = rv_monr (σ 4) (σ 9) i) → ∀ ls, lv_has ls 4 [(0, .ref n), (1, .int mn), (2, .int mo), (3, .int (nI i))] → W p l e { frames := 1, cells := 0, slots := 0, locals := 60 } s m [.ref n].toArray below meth c s.heap [] 0 0 (MQ below (va_Qv (fun u => (∀ a, a ≠ 10 → a ≠ 15 → u a = σ a) ∧ (∀ j, j ≠ 1 → j ≠ 2 → u 15 j = σ 15 j) ∧ mdBst hand u (rv_judge (σ 4) hand (σ 9) B)) (mdB dC dI dA n ab be) (mdA n)) [.ref n].toArray s 0 0 (mdA n)) (F0 m 6 ls []) := by
    intro k6_
    induction k6_ using Nat.strongRecOn with
    | _ k6_ ih6 =>
      intro mn mo i hm6_ hi hmn hmo ls hl
      refine lv_iload_n hx hb dX5_judgeRow_6 rfl (lv_at hl 3 rfl) ?_
      refine lv_aload_n hx hb dX5_judgeRow_7 rfl (lv_at hl 0 rfl) ?_
      refine md_g7 C hP dX5_judgeRow_8 ?_
      refine rn_co (y := nI hand) hh ?_
      refine rn_icmp_ge (tgt := 66) hx hb (by omega) (by omega) dX5_judgeRow_11 (by decide) (fun c_11 => ?_) (fun c_11 => ?_)
      · refine lv_iload_n hx hb dX5_judgeRow_66 rfl (lv_at hl 1 rfl) ?_
        refine lv_aload_n hx hb dX5_judgeRow_67 rfl (lv_at hl 0 rfl) ?_
        refine md_g14 C hP dX5_judgeRow_68 ?_
        refine lv_icmp_gt (tgt := 90) hx hb dX5_judgeRow_71 (by decide) (fun (c_71 : σ 15 1 < mn) => ?_) (fun (c_71 : ¬ σ 15 1 < mn) => ?_)
        · refine lv_aload_n hx hb dX5_judgeRow_90 rfl (lv_at hl 0 rfl) ?_
          refine lv_iload_n hx hb dX5_judgeRow_91 rfl (lv_at hl 1 rfl) ?_
          refine md_p14 C hP hS dX5_judgeRow_92 (fun H locs hP hS => ?_)
          refine lv_aload_n hx hb dX5_judgeRow_95 rfl (lv_at hl 0 rfl) ?_
          refine lv_iload_n hx hb dX5_judgeRow_96 rfl (lv_at hl 2 rfl) ?_
          refine md_p15 C hP hS dX5_judgeRow_97 (fun H locs hP hS => ?_)
          refine lv_iconst (v := nI 0) hx hb dX5_judgeRow_100 rfl ?_
          refine lv_istore_n (lv' := [(3, .int (nI 0)), (0, .ref n), (1, .int mn), (2, .int mo)]) hx hb dX5_judgeRow_101 rfl hl (by decide) rfl (fun ls hl => ?_)
          exact K102 _ 0 (mdS (mdS σ 15 1 mn) 15 2 mo) _ _ rfl (by omega) (by have ei : i = hand := (by omega); subst ei; unfold rv_judge; rw [← hmn, ← hmo, ← hB.1, ← hB.2.1]; first | rw [if_pos c_71] | rw [if_neg c_71, if_pos c_79, if_neg c_87]) (fun a h1 h2 => by rw [mdS_row _ _ _ h2, mdS_row _ _ _ h2]) (fun j h1 h2 => by rw [mdS_ne h2, mdS_ne h1]) (by rw [mdS_ne (by decide), mdS_eq, hmn, show i = hand by omega]) (by rw [mdS_eq, hmo, show i = hand by omega]) (fun j h => absurd h (Nat.not_lt_zero j)) hP hS ls (lv_sub hl [1, 0] rfl)
        · refine lv_iload_n hx hb dX5_judgeRow_74 rfl (lv_at hl 1 rfl) ?_
          refine lv_aload_n hx hb dX5_judgeRow_75 rfl (lv_at hl 0 rfl) ?_
          refine md_g14 C hP dX5_judgeRow_76 ?_
          refine lv_icmp_ne (tgt := 128) hx hb dX5_judgeRow_79 (by decide) (fun (c_79 : ¬ mn = σ 15 1) => ?_) (fun (c_79 : mn = σ 15 1) => ?_)
          · exact md_rv C hr hlk hP hS dX5_judgeRow_128 (by first | exact ⟨ho, hk, by rw [hJ]; exact ⟨e1, e2, fun j hj => by rw [hw j (by omega)]; exact (if_pos hj).symm⟩⟩ | (refine ⟨fun _ _ _ => rfl, fun _ _ _ => rfl, ?_⟩; have ei : i = hand := (by omega); subst ei; unfold rv_judge; rw [← hmn, ← hmo, ← hB.1, ← hB.2.1, if_neg c_71]; first | (rw [if_neg c_79]; exact hB) | (rw [if_pos c_79, if_pos c_87]; exact hB)))
          · refine lv_iload_n hx hb dX5_judgeRow_82 rfl (lv_at hl 2 rfl) ?_
            refine lv_aload_n hx hb dX5_judgeRow_83 rfl (lv_at hl 0 rfl) ?_
            refine md_g15 C hP dX5_judgeRow_84 ?_
            refine lv_icmp_le (tgt := 128) hx hb dX5_judgeRow_87 (by decide) (fun (c_87 : mo ≤ σ 15 2) => ?_) (fun (c_87 : ¬ mo ≤ σ 15 2) => ?_)
            · exact md_rv C hr hlk hP hS dX5_judgeRow_128 (by first | exact ⟨ho, hk, by rw [hJ]; exact ⟨e1, e2, fun j hj => by rw [hw j (by omega)]; exact (if_pos hj).symm⟩⟩ | (refine ⟨fun _ _ _ => rfl, fun _ _ _ => rfl, ?_⟩; have ei : i = hand := (by omega); subst ei; unfold rv_judge; rw [← hmn, ← hmo, ← hB.1, ← hB.2.1, if_neg c_71]; first | (rw [if_neg c_79]; exact hB) | (rw [if_pos c_79, if_pos c_87]; exact hB)))
            · refine lv_aload_n hx hb dX5_judgeRow_90 rfl (lv_at hl 0 rfl) ?_
              refine lv_iload_n hx hb dX5_judgeRow_91 rfl (lv_at hl 1 rfl) ?_
              refine md_p14 C hP hS dX5_judgeRow_92 (fun H locs hP hS => ?_)
              refine lv_aload_n hx hb dX5_judgeRow_95 rfl (lv_at hl 0 rfl) ?_
              refine lv_iload_n hx hb dX5_judgeRow_96 rfl (lv_at hl 2 rfl) ?_
              refine md_p15 C hP hS dX5_judgeRow_97 (fun H locs hP hS => ?_)
              refine lv_iconst (v := nI 0) hx hb dX5_judgeRow_100 rfl ?_
              refine lv_istore_n (lv' := [(3, .int (nI 0)), (0, .ref n), (1, .int mn), (2, .int mo)]) hx hb dX5_judgeRow_101 rfl hl (by decide) rfl (fun ls hl => ?_)
              exact K102 _ 0 (mdS (mdS σ 15 1 mn) 15 2 mo) _ _ rfl (by omega) (by have ei : i = hand := (by omega); subst ei; unfold rv_judge; rw [← hmn, ← hmo, ← hB.1, ← hB.2.1]; first | rw [if_pos c_71] | rw [if_neg c_71, if_pos c_79, if_neg c_87]) (fun a h1 h2 => by rw [mdS_row _ _ _ h2, mdS_row _ _ _ h2]) (fun j h1 h2 => by rw [mdS_ne h2, mdS_ne h1]) (by rw [mdS_ne (by decide), mdS_eq, hmn, show i = hand by omega]) (by rw [mdS_eq, hmo, show i = hand by omega]) (fun j h => absurd h (Nat.not_lt_zero j)) hP hS ls (lv_sub hl [1, 0] rfl)
      · refine lv_iload_n hx hb dX5_judgeRow_14 rfl (lv_at hl 1 rfl) ?_
        refine lv_aload_n hx hb dX5_judgeRow_15 rfl (lv_at hl 0 rfl) ?_
        refine md_g12 C hP dX5_judgeRow_16 ?_
        refine lv_iload_n hx hb dX5_judgeRow_19 rfl (lv_at hl 3 rfl) ?_
        refine md_l9 C hP (by omega) dX5_judgeRow_20 ?_
        refine lv_iconst (v := (-1)) hx hb dX5_judgeRow_21 rfl ?_
        refine lv_icmp_ne (tgt := 29) hx hb dX5_judgeRow_22 (by decide) (fun (c_22 : ¬ σ 9 i = (-1)) => ?_) (fun (c_22 : σ 9 i = (-1)) => ?_)
        · refine lv_iconst (v := nI 1) hx hb dX5_judgeRow_29 rfl ?_
          refine lv_iadd hx hb dX5_judgeRow_30 ?_
          refine lv_istore_n (lv' := [(1, .int (mn + 1)), (0, .ref n), (2, .int mo), (3, .int (nI i))]) hx hb dX5_judgeRow_31 rfl hl (by decide) rfl (fun ls hl => ?_)
          refine lv_iload_n hx hb dX5_judgeRow_32 rfl (lv_at hl 2 rfl) ?_
          refine lv_aload_n hx hb dX5_judgeRow_33 rfl (lv_at hl 1 rfl) ?_
          refine md_g12 C hP dX5_judgeRow_34 ?_
          refine lv_iload_n hx hb dX5_judgeRow_37 rfl (lv_at hl 3 rfl) ?_
          refine md_l9 C hP (by omega) dX5_judgeRow_38 ?_
          refine lv_iconst (v := (-1)) hx hb dX5_judgeRow_39 rfl ?_
          refine lv_icmp_ne (tgt := 47) hx hb dX5_judgeRow_40 (by decide) (fun (c_40 : ¬ σ 9 i = (-1)) => ?_) (fun (c_40 : σ 9 i = (-1)) => ?_)
          · obtain ⟨jv, hjv6, hjv⟩ := (hok i (by omega)).resolve_left c_40
            refine lv_aload_n hx hb dX5_judgeRow_47 rfl (lv_at hl 1 rfl) ?_
            refine md_g6 C hP dX5_judgeRow_48 ?_
            refine lv_aload_n hx hb dX5_judgeRow_51 rfl (lv_at hl 1 rfl) ?_
            refine md_g12 C hP dX5_judgeRow_52 ?_
            refine lv_iload_n hx hb dX5_judgeRow_55 rfl (lv_at hl 3 rfl) ?_
            refine md_l9 C hP (by omega) dX5_judgeRow_56 ?_
            refine rn_co (y := nI jv) hjv ?_
            refine md_l4 C hP (by omega) dX5_judgeRow_57 ?_
            refine lv_iadd hx hb dX5_judgeRow_58 ?_
            refine lv_istore_n (lv' := [(2, .int (mo + (σ 4 jv))), (1, .int (mn + 1)), (0, .ref n), (3, .int (nI i))]) hx hb dX5_judgeRow_59 rfl hl (by decide) rfl (fun ls hl => ?_)
            refine rn_iinc (lv' := [(3, .int (nI (i + 1))), (2, .int (mo + (σ 4 jv))), (1, .int (mn + 1)), (0, .ref n)]) hx hb dX5_judgeRow_60 hl (k := 3) rfl (by decide) rfl (fun ls hl => ?_)
            refine lv_goto (tgt := 6) hx hb dX5_judgeRow_63 (by decide) ?_
            exact ih6 _ (by omega) (mn + 1) (mo + (σ 4 jv)) (i + 1) rfl (by omega) (by rw [rv_cntr, ← hmn]; first | rw [if_pos c_22] | rw [if_neg c_22]) (by rw [rv_monr, ← hmo]; first | rw [if_pos c_22] | rw [if_neg c_22, hjv, rv_cln (by omega)]) ls (lv_sub hl [3, 2, 1, 0] rfl)
          · first | exact absurd c_22 c_40 | exact absurd c_40 c_22
        · refine lv_iconst (v := nI 0) hx hb dX5_judgeRow_25 rfl ?_
          refine lv_goto (tgt := 30) hx hb dX5_judgeRow_26 (by decide) ?_
          refine lv_iadd hx hb dX5_judgeRow_30 ?_
          refine lv_istore_n (lv' := [(1, .int (mn + 0)), (0, .ref n), (2, .int mo), (3, .int (nI i))]) hx hb dX5_judgeRow_31 rfl hl (by decide) rfl (fun ls hl => ?_)
          refine lv_iload_n hx hb dX5_judgeRow_32 rfl (lv_at hl 2 rfl) ?_
          refine lv_aload_n hx hb dX5_judgeRow_33 rfl (lv_at hl 1 rfl) ?_
          refine md_g12 C hP dX5_judgeRow_34 ?_
          refine lv_iload_n hx hb dX5_judgeRow_37 rfl (lv_at hl 3 rfl) ?_
          refine md_l9 C hP (by omega) dX5_judgeRow_38 ?_
          refine lv_iconst (v := (-1)) hx hb dX5_judgeRow_39 rfl ?_
          refine lv_icmp_ne (tgt := 47) hx hb dX5_judgeRow_40 (by decide) (fun (c_40 : ¬ σ 9 i = (-1)) => ?_) (fun (c_40 : σ 9 i = (-1)) => ?_)
          · first | exact absurd c_22 c_40 | exact absurd c_40 c_22
          · refine lv_iconst (v := nI 0) hx hb dX5_judgeRow_43 rfl ?_
            refine lv_goto (tgt := 58) hx hb dX5_judgeRow_44 (by decide) ?_
            refine lv_iadd hx hb dX5_judgeRow_58 ?_
            refine lv_istore_n (lv' := [(2, .int (mo + 0)), (1, .int (mn + 0)), (0, .ref n), (3, .int (nI i))]) hx hb dX5_judgeRow_59 rfl hl (by decide) rfl (fun ls hl => ?_)
            refine rn_iinc (lv' := [(3, .int (nI (i + 1))), (2, .int (mo + 0)), (1, .int (mn + 0)), (0, .ref n)]) hx hb dX5_judgeRow_60 hl (k := 3) rfl (by decide) rfl (fun ls hl => ?_)
            refine lv_goto (tgt := 6) hx hb dX5_judgeRow_63 (by decide) ?_
            exact ih6 _ (by omega) (mn + 0) (mo + 0) (i + 1) rfl (by omega) (by rw [rv_cntr, ← hmn]; first | rw [if_pos c_22] | rw [if_neg c_22]) (by rw [rv_monr, ← hmo]; first | rw [if_pos c_22] | rw [if_neg c_22, hjv, rv_cln (by omega)]) ls (lv_sub hl [3, 2, 1, 0] rfl)
  refine lv_iconst (v := nI 0) hx hb dX5_judgeRow_0 rfl ?_
  refine lv_istore_n (lv' := [(1, .int (nI 0)), (0, .ref n)]) hx hb dX5_judgeRow_1 rfl hl (by decide) rfl (fun ls hl => ?_)
  refine lv_iconst (v := nI 0) hx hb dX5_judgeRow_2 rfl ?_
  refine lv_istore_n (lv' := [(2, .int (nI 0)), (1, .int (nI 0)), (0, .ref n)]) hx hb dX5_judgeRow_3 rfl hl (by decide) rfl (fun ls hl => ?_)
  refine lv_iconst (v := nI 0) hx hb dX5_judgeRow_4 rfl ?_
  refine lv_istore_n (lv' := [(3, .int (nI 0)), (2, .int (nI 0)), (1, .int (nI 0)), (0, .ref n)]) hx hb dX5_judgeRow_5 rfl hl (by decide) rfl (fun ls hl => ?_)
  exact K6 _ (nI 0) (nI 0) 0 rfl (by omega) rfl rfl ls (lv_sub hl [3, 2, 1, 0] rfl)
