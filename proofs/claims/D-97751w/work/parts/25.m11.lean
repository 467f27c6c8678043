set_option maxRecDepth 100000
/-! the Model: the best row -/
/-- what stays while rows are tried -/
def mdFr (σ : mdT) (many hand : Nat) (ev : Int32) (σ1 : mdT) : Prop := (∀ a, a ≠ 8 → a ≠ 9 → a ≠ 10 → a ≠ 15 → σ1 a = σ a) ∧ (∀ r, r < hand → σ1 8 r = rv_mask (fun v => rv_suitM σ v r ev) many) ∧ (∀ j, j ≠ 1 → j ≠ 2 → σ1 15 j = σ 15 j)
theorem mdFr.S9 {σ σ1 : mdT} {many hand : Nat} {ev : Int32} (h : mdFr σ many hand ev σ1) (k : Nat) (v : Int32) : mdFr σ many hand ev (mdS σ1 9 k v) :=
  ⟨fun a h8 h9 h10 h15 => by rw [mdS_row _ _ _ h9]; exact h.1 a h8 h9 h10 h15, fun r hr => by rw [mdS_o _ (by decide)]; exact h.2.1 r hr, fun j h1 h2 => by rw [mdS_o _ (by decide)]; exact h.2.2 j h1 h2⟩
theorem mdFr.J {σ σ1 σ2 : mdT} {many hand : Nat} {ev : Int32} (h : mdFr σ many hand ev σ1) (h1 : ∀ a, a ≠ 10 → a ≠ 15 → σ2 a = σ1 a) (h2 : ∀ j, j ≠ 1 → j ≠ 2 → σ2 15 j = σ1 15 j) : mdFr σ many hand ev σ2 :=
  ⟨fun a a8 a9 a10 a15 => by rw [h1 a a10 a15]; exact h.1 a a8 a9 a10 a15, fun r hr => by rw [h1 8 (by decide) (by decide)]; exact h.2.1 r hr, fun j j1 j2 => by rw [h2 j j1 j2]; exact h.2.2 j j1 j2⟩
theorem mdBst.S9 {σ1 : mdT} {hand : Nat} {B : rvB} (h : mdBst hand σ1 B) (k : Nat) (v : Int32) : mdBst hand (mdS σ1 9 k v) B :=
  ⟨by rw [mdS_o _ (by decide)]; exact h.1, by rw [mdS_o _ (by decide)]; exact h.2.1, fun i hi => by rw [mdS_o _ (by decide)]; exact h.2.2 i hi⟩
/-- the numbers that last, and the hand but for what is best -/
def mdBest (σ : mdT) (many hand : Nat) (ev : Int32) (u : mdT) : Prop := (∀ a, a ≠ 8 → a ≠ 9 → a ≠ 10 → a ≠ 15 → u a = σ a) ∧ (∀ j, j ≠ 1 → j ≠ 2 → u 15 j = σ 15 j) ∧ mdBst hand u (rv_try (fun v r => rv_suitM σ v r ev) (σ 4) many hand 0 (fun _ => 0) (-1, 0, fun _ => 0))
theorem rv_m1lt : (-2 : Int32) < -1 := by decide
theorem rv_nIm1 (c : Nat) (hc : c < 2 ^ 30) : (-1 : Int32) ≤ nI c + (-1) := by
  cases c with
  | zero => decide
  | succ c =>
    rw [pk_m1, Int32.le_iff_toInt_le, nI_toInt (by omega)]
    show (-1 : Int) ≤ _
    omega
theorem rv_nIne (c : Nat) (hc : c < 2 ^ 30) : ¬ nI c = -1 := fun z => by
  have h1 : (nI c).toInt = (-1 : Int32).toInt := congrArg Int32.toInt z
  rw [nI_toInt (by omega)] at h1
  have h2 : (-1 : Int32).toInt = -1 := rfl
  omega
theorem rv_nIm1p (c : Nat) : nI c + (-1) + 1 = nI c := by
  have : (-1 : Int32) + 1 = 0 := rfl
  rw [Int32.add_assoc, this, Int32.add_zero]
set_option maxHeartbeats 4000000 in
theorem met_layBest (l : Launch) (dC : Nat → ClassId) (dI : Nat → Nat → Nat) (dA : Nat → ClassId) (n : Nat) (σ : mdT) (ab be : Int64) (ev : Int32) (many : Nat) (h0 : σ 0 0 = nI many) (hm : many ≤ 6) (hand : Nat) (hh : σ 15 0 = nI hand) (hh7 : hand ≤ 7) : Met l yX5_layBest (ws_ yX5_layBest cX5_layBest 4 none) { frames := 6, cells := 0, slots := 0, locals := 360 } (mdPc dC dI dA n σ ab be [.ref n, .int ev]) (va_Qv (fun u => mdBest σ many hand ev u) (mdB dC dI dA n ab be) (mdA n)) 0 0 (mdA n) := by
  refine md_in (by decide) rfl (Nat.le_of_ble_eq_true rfl) (lv := [(0, .ref n), (1, .int ev)]) rfl ?_
  intro p e s m below meth c C hr hlk hP ls hl
  have hx := C.1
  have hb := C.2.1
  have hown := C.2.2.2.1
  have hts := C.2.2.2.2.1
  have hS : va_S (mdA n) s.heap s.heap [] := va_S.rf
  have KB : ∀ (k r : Nat) (σ1 : mdT) (H : Heap) (locs : List Loc) (B : rvB), r + k = hand → mdFr σ many hand ev σ1 → rv_okrow many (σ1 9) r → mdBst hand σ1 B → (r < hand → σ1 9 r = -2) → mdP dC dI dA n σ1 ab be H → va_S (mdA n) s.heap H locs → (∀ (σ2 : mdT) (H : Heap) (locs : List Loc), mdFr σ many hand ev σ2 → (∀ i, i < r → σ2 9 i = σ1 9 i) → mdBst hand σ2 (rv_try (fun v r => rv_suitM σ v r ev) (σ 4) many k r (σ1 9) B) → mdP dC dI dA n σ2 ab be H → va_S (mdA n) s.heap H locs → ∀ ls, lv_has ls 4 [(0, .ref n), (1, .int ev), (2, .int (nI r + (-1)))] → W p l e { frames := 6, cells := 0, slots := 0, locals := 360 } s m [.ref n, .int ev].toArray below meth c H locs 0 0 (MQ below (va_Qv (fun u => mdBest σ many hand ev u) (mdB dC dI dA n ab be) (mdA n)) [.ref n, .int ev].toArray s 0 0 (mdA n)) (F0 m 25 ls [])) → ∀ ls, lv_has ls 4 [(0, .ref n), (1, .int ev), (2, .int (nI r))] → W p l e { frames := 6, cells := 0, slots := 0, locals := 360 } s m [.ref n, .int ev].toArray below meth c H locs 0 0 (MQ below (va_Qv (fun u => mdBest σ many hand ev u) (mdB dC dI dA n ab be) (mdA n)) [.ref n, .int ev].toArray s 0 0 (mdA n)) (F0 m 25 ls []) := by
    intro k
    induction k with
    | zero =>
      intro r σ1 H locs B hrk hF hok hB hr2 hP hS cont ls hl
      have hha : σ1 15 0 = nI hand := by rw [hF.2.2 0 (by decide) (by decide)]; exact hh
      refine lv_iload_n hx hb dX5_layBest_25 rfl (lv_at hl 2 rfl) ?_
      refine lv_if_lt (tgt := 132) hx hb dX5_layBest_26 (by decide) (fun (c_26 : nI r < 0) => ?_) (fun (c_26 : ¬ nI r < 0) => ?_)
      · exact absurd c_26 (nI_pos (by omega))
      · refine lv_iload_n hx hb dX5_layBest_29 rfl (lv_at hl 2 rfl) ?_
        refine lv_aload_n hx hb dX5_layBest_30 rfl (lv_at hl 0 rfl) ?_
        refine md_g7 C hP dX5_layBest_31 ?_
        refine rn_co (y := nI hand) hha ?_
        refine rn_icmp_ne (tgt := 47) hx hb (by omega) (by omega) dX5_layBest_34 (by decide) (fun c_34 => ?_) (fun c_34 => ?_)
        · exact absurd (show r = hand by omega) c_34
        · refine lv_aload_n hx hb dX5_layBest_37 rfl (lv_at hl 0 rfl) ?_
          refine md_cWv (As := []) (rest := []) C hP hS (met_judgeRow l dC dI dA n σ1 ab be hand hha hh7 B hB (fun i hi => (hok i (by omega)).imp id (fun ⟨v, h1, h2⟩ => ⟨v, by omega, h2⟩))) card_judgeRow rfl rfl ⟨Nat.le_of_ble_eq_true rfl, Nat.le_of_ble_eq_true rfl⟩ hl.1 (Nat.le_of_ble_eq_true rfl) dX5_layBest_38 (fun s38 H locs hs38 hP hS => ?_)
          refine lv_iinc (v := (nI r) + (-1)) (lv' := [(2, .int ((nI r) + (-1))), (0, .ref n), (1, .int ev)]) hx hb dX5_layBest_41 hl (k := 2) rfl rfl (by decide) rfl (fun ls hl => ?_)
          refine lv_goto (tgt := 25) hx hb dX5_layBest_44 (by decide) ?_
          obtain ⟨j1, j2, j3⟩ := hs38
          refine cont s38 _ _ (hF.J j1 j2) (fun i _ => by rw [j1 9 (by decide) (by decide)]) ?_ hP hS ls (lv_sub hl [1, 2, 0] rfl)
          have e4 : σ1 4 = σ 4 := hF.1 4 (by decide) (by decide) (by decide) (by decide)
          rw [e4, ← (show r = hand by omega)] at j3
          rw [← (show r = hand by omega)]
          exact j3
    | succ k ih =>
      intro r σ1 H locs B hrk hF hok hB hr2 hP hS cont ls hl
      have KI : ∀ (j c_ : Nat) (σ2 : mdT) (H : Heap) (locs : List Loc), many - c_ = j → c_ ≤ many → mdFr σ many hand ev σ2 → (∀ i, i < r → σ2 9 i = σ1 9 i) → σ2 9 r = nI c_ + (-1) → mdBst hand σ2 (rv_for (rv_F (fun v r => rv_suitM σ v r ev) (σ 4) many k r (σ1 9)) c_ (rv_try (fun v r => rv_suitM σ v r ev) (σ 4) many k (r + 1) (upd (σ1 9) r (-1)) B)) → mdP dC dI dA n σ2 ab be H → va_S (mdA n) s.heap H locs → ∀ ls, lv_has ls 4 [(0, .ref n), (1, .int ev), (2, .int (nI r))] → W p l e { frames := 6, cells := 0, slots := 0, locals := 360 } s m [.ref n, .int ev].toArray below meth c H locs 0 0 (MQ below (va_Qv (fun u => mdBest σ many hand ev u) (mdB dC dI dA n ab be) (mdA n)) [.ref n, .int ev].toArray s 0 0 (mdA n)) (F0 m 25 ls []) := by
        intro j
        induction j using Nat.strongRecOn with
        | _ j ihj =>
          intro c_ σ2 H locs hjm hcm hF2 hrow hrr hB2 hP hS ls hl
          have hha : σ2 15 0 = nI hand := by rw [hF2.2.2 0 (by decide) (by decide)]; exact hh
          have e0 : σ2 0 = σ 0 := hF2.1 0 (by decide) (by decide) (by decide) (by decide)
          have h0a : σ2 0 0 = nI many := by rw [e0]; exact h0
          have hok2 : rv_okrow many (σ2 9) r := fun i hi => by rw [hrow i hi]; exact hok i hi
          have hrr1 : σ2 9 r + 1 = nI c_ := by rw [hrr]; exact rv_nIm1p c_
          have hM : ∀ v, v < many → bt (σ2 8 r &&& rv_fb (σ2 9) many r) v = (!rv_taken (σ1 9) r v && rv_suitM σ v r ev) := by
            intro v hv
            rw [b_and, hF2.2.1 r (by omega), b_mask (by omega) v (by omega), decide_eq_true hv, Bool.true_and, rv_fb_b hm hok2 v hv, rv_taken_c hrow v, Bool.and_comm]
          have hnx := rv_nx_p (M := bt (σ2 8 r &&& rv_fb (σ2 9) many r)) (many - c_) c_
          obtain ⟨nx, enx⟩ : ∃ x, x = rv_nx (bt (σ2 8 r &&& rv_fb (σ2 9) many r)) (many - c_) c_ := ⟨_, rfl⟩
          rw [← enx] at hnx
          obtain ⟨hn1, hn2, hn3, hn4⟩ := hnx
          have hskip : rv_for (rv_F (fun v r => rv_suitM σ v r ev) (σ 4) many k r (σ1 9)) nx (rv_try (fun v r => rv_suitM σ v r ev) (σ 4) many k (r + 1) (upd (σ1 9) r (-1)) B) = rv_for (rv_F (fun v r => rv_suitM σ v r ev) (σ 4) many k r (σ1 9)) c_ (rv_try (fun v r => rv_suitM σ v r ev) (σ 4) many k (r + 1) (upd (σ1 9) r (-1)) B) := by
            have h := rv_for_skip (F := (rv_F (fun v r => rv_suitM σ v r ev) (σ 4) many k r (σ1 9))) (nx - c_) c_ (rv_try (fun v r => rv_suitM σ v r ev) (σ 4) many k (r + 1) (upd (σ1 9) r (-1)) B) (fun v B h1 h2 => if_neg (rv_nf (by rw [← hM v (by omega)]; exact hn3 v h1 (by omega))))
            rw [show c_ + (nx - c_) = nx by omega] at h
            exact h
          refine lv_iload_n hx hb dX5_layBest_25 rfl (lv_at hl 2 rfl) ?_
          refine lv_if_lt (tgt := 132) hx hb dX5_layBest_26 (by decide) (fun (c_26 : nI r < 0) => ?_) (fun (c_26 : ¬ nI r < 0) => ?_)
          · exact absurd c_26 (nI_pos (by omega))
          · refine lv_iload_n hx hb dX5_layBest_29 rfl (lv_at hl 2 rfl) ?_
            refine lv_aload_n hx hb dX5_layBest_30 rfl (lv_at hl 0 rfl) ?_
            refine md_g7 C hP dX5_layBest_31 ?_
            refine rn_co (y := nI hand) hha ?_
            refine rn_icmp_ne (tgt := 47) hx hb (by omega) (by omega) dX5_layBest_34 (by decide) (fun c_34 => ?_) (fun c_34 => ?_)
            · refine lv_aload_n hx hb dX5_layBest_47 rfl (lv_at hl 0 rfl) ?_
              refine md_g12 C hP dX5_layBest_48 ?_
              refine lv_iload_n hx hb dX5_layBest_51 rfl (lv_at hl 2 rfl) ?_
              refine md_l9 C hP (by omega) dX5_layBest_52 ?_
              refine lv_iconst (v := (-1)) hx hb dX5_layBest_53 rfl ?_
              refine lv_icmp_ge (tgt := 61) hx hb dX5_layBest_54 (by decide) (fun (c_54 : (-1) ≤ σ2 9 r) => ?_) (fun (c_54 : ¬ (-1) ≤ σ2 9 r) => ?_)
              · refine lv_aload_n hx hb dX5_layBest_61 rfl (lv_at hl 0 rfl) ?_
                refine lv_aload_n hx hb dX5_layBest_62 rfl (lv_at hl 0 rfl) ?_
                refine md_g12 C hP dX5_layBest_63 ?_
                refine lv_iload_n hx hb dX5_layBest_66 rfl (lv_at hl 2 rfl) ?_
                refine md_l9 C hP (by omega) dX5_layBest_67 ?_
                refine lv_aload_n hx hb dX5_layBest_68 rfl (lv_at hl 0 rfl) ?_
                refine md_g11 C hP dX5_layBest_69 ?_
                refine lv_iload_n hx hb dX5_layBest_72 rfl (lv_at hl 2 rfl) ?_
                refine md_l8 C hP (by omega) dX5_layBest_73 ?_
                refine lv_aload_n hx hb dX5_layBest_74 rfl (lv_at hl 0 rfl) ?_
                refine lv_iload_n hx hb dX5_layBest_75 rfl (lv_at hl 2 rfl) ?_
                refine md_cSe (As := [.int (nI r)]) (rest := [.int (σ2 8 r), .int (σ2 9 r), .ref n]) C hP (met_freeBut l dC dI dA n σ2 ab be r many h0a hm (by omega)) card_freeBut rfl rfl ⟨Nat.le_of_ble_eq_true rfl, Nat.le_of_ble_eq_true rfl⟩ hl.1 (Nat.le_of_ble_eq_true rfl) dX5_layBest_76 ?_
                refine lv_iand hx hb dX5_layBest_79 ?_
                refine md_cSe (As := [.int (σ2 9 r), .int ((σ2 8 r) &&& (rv_fb (σ2 9) many r))]) (rest := []) C hP (met_nextView l dC dI dA n σ2 ab be (σ2 9 r) ((σ2 8 r) &&& (rv_fb (σ2 9) many r)) many h0a hm c_ hrr1 hcm) card_nextView rfl rfl ⟨Nat.le_of_ble_eq_true rfl, Nat.le_of_ble_eq_true rfl⟩ hl.1 (Nat.le_of_ble_eq_true rfl) dX5_layBest_80 ?_
                refine rn_co (y := nI nx) (by rw [enx]) ?_
                refine lv_istore_n (lv' := [(3, .int (nI nx)), (0, .ref n), (1, .int ev), (2, .int (nI r))]) hx hb dX5_layBest_83 rfl hl (by decide) rfl (fun ls hl => ?_)
                refine lv_aload_n hx hb dX5_layBest_84 rfl (lv_at hl 1 rfl) ?_
                refine md_g12 C hP dX5_layBest_85 ?_
                refine lv_iload_n hx hb dX5_layBest_88 rfl (lv_at hl 3 rfl) ?_
                refine lv_iload_n hx hb dX5_layBest_89 rfl (lv_at hl 0 rfl) ?_
                refine md_s9 C hP hS (by omega) dX5_layBest_90 (fun H locs hP hS => ?_)
                refine lv_iload_n hx hb dX5_layBest_91 rfl (lv_at hl 0 rfl) ?_
                refine lv_aload_n hx hb dX5_layBest_92 rfl (lv_at hl 1 rfl) ?_
                refine md_cSe (As := []) (rest := [.int (nI nx)]) C hP (met_views l dC dI dA n (mdS σ2 9 r (nI nx)) ab be) card_views rfl rfl ⟨Nat.le_of_ble_eq_true rfl, Nat.le_of_ble_eq_true rfl⟩ hl.1 (Nat.le_of_ble_eq_true rfl) dX5_layBest_93 ?_
                refine rn_co (y := nI many) (show mdS σ2 9 r (nI nx) 0 0 = nI many from by rw [mdS_o _ (by decide)]; exact h0a) ?_
                refine rn_icmp_ne (tgt := 110) hx hb (by omega) (by omega) dX5_layBest_96 (by decide) (fun c_96 => ?_) (fun c_96 => ?_)
                · refine rn_iinc (lv' := [(2, .int (nI (r + 1))), (3, .int (nI nx)), (0, .ref n), (1, .int ev)]) hx hb dX5_layBest_110 hl (k := 3) rfl (by decide) rfl (fun ls hl => ?_)
                  refine lv_iload_n hx hb dX5_layBest_113 rfl (lv_at hl 0 rfl) ?_
                  refine lv_aload_n hx hb dX5_layBest_114 rfl (lv_at hl 2 rfl) ?_
                  refine md_g7 C hP dX5_layBest_115 ?_
                  refine rn_co (y := nI hand) (show mdS σ2 9 r (nI nx) 15 0 = nI hand from by rw [mdS_o _ (by decide)]; exact hha) ?_
                  refine rn_icmp_ge (tgt := 129) hx hb (by omega) (by omega) dX5_layBest_118 (by decide) (fun c_118 => ?_) (fun c_118 => ?_)
                  · refine lv_goto (tgt := 25) hx hb dX5_layBest_129 (by decide) ?_
                    have hnm : nx < many := by omega
                    have hrw : ∀ i, i < r → (mdS σ2 9 r (nI nx)) 9 i = σ1 9 i := fun i hi => by rw [mdS_ne (by omega)]; exact hrow i hi
                    have hrx : (mdS σ2 9 r (nI nx)) 9 r = nI nx := by rw [mdS_eq]
                    refine ih (r + 1) (mdS σ2 9 r (nI nx)) _ _ (rv_for (rv_F (fun v r => rv_suitM σ v r ev) (σ 4) many k r (σ1 9)) nx (rv_try (fun v r => rv_suitM σ v r ev) (σ 4) many k (r + 1) (upd (σ1 9) r (-1)) B)) (by omega) (hF2.S9 r (nI nx)) (fun i hi => ?_) (by rw [hskip]; exact (hB2.S9 r (nI nx))) (fun h => absurd h (by omega)) hP hS (fun σ4 H locs hF4 hrow4 hB4 hP hS ls hl => ?_) ls (lv_sub hl [2, 3, 0] rfl)
                    · by_cases e : i = r
                      · rw [e, hrx]; exact Or.inr ⟨nx, hnm, rfl⟩
                      · rw [hrw i (by omega)]; exact hok i (by omega)
                    · rw [pk_m1] at hl
                      refine ihj (many - (nx + 1)) (by omega) (nx + 1) σ4 _ _ rfl (by omega) hF4 (fun i hi => by rw [hrow4 i (by omega)]; exact hrw i hi) (by rw [hrow4 r (by omega), hrx, pk_m1]) ?_ hP hS ls hl
                      have e : rv_for (rv_F (fun v r => rv_suitM σ v r ev) (σ 4) many k r (σ1 9)) (nx + 1) (rv_try (fun v r => rv_suitM σ v r ev) (σ 4) many k (r + 1) (upd (σ1 9) r (-1)) B) = (rv_F (fun v r => rv_suitM σ v r ev) (σ 4) many k r (σ1 9)) nx (rv_for (rv_F (fun v r => rv_suitM σ v r ev) (σ 4) many k r (σ1 9)) nx (rv_try (fun v r => rv_suitM σ v r ev) (σ 4) many k (r + 1) (upd (σ1 9) r (-1)) B)) := rfl
                      rw [e, rv_F, if_pos (by rw [← hM nx hnm]; exact hn4 (by omega))]
                      rw [rv_try_c (S := (fun v r => rv_suitM σ v r ev)) (S' := (fun v r => rv_suitM σ v r ev)) (cost := σ 4) (cost' := σ 4) (many := many) (k := k) (r := r + 1) (row := upd (σ1 9) r (nI nx)) (row' := (mdS σ2 9 r (nI nx)) 9) (by omega) (fun _ _ => rfl) (fun _ _ _ _ => rfl) (fun i hi => ?_) (hok.up (Or.inr ⟨nx, hnm, rfl⟩))]
                      · exact hB4
                      · unfold upd
                        by_cases e : i = r
                        · rw [if_pos e, e]; exact hrx.symm
                        · rw [if_neg e]; exact (hrw i (by omega)).symm
                  · refine lv_aload_n hx hb dX5_layBest_121 rfl (lv_at hl 2 rfl) ?_
                    refine md_g12 C hP dX5_layBest_122 ?_
                    refine lv_iload_n hx hb dX5_layBest_125 rfl (lv_at hl 0 rfl) ?_
                    refine lv_bipush (v := (-2)) hx hb dX5_layBest_126 rfl ?_
                    refine md_s9 C hP hS (by omega) dX5_layBest_128 (fun H locs hP hS => ?_)
                    refine lv_goto (tgt := 25) hx hb dX5_layBest_129 (by decide) ?_
                    have hnm : nx < many := by omega
                    have hrw : ∀ i, i < r → (mdS (mdS σ2 9 r (nI nx)) 9 (r + 1) (-2)) 9 i = σ1 9 i := fun i hi => by rw [mdS_ne (by omega), mdS_ne (by omega)]; exact hrow i hi
                    have hrx : (mdS (mdS σ2 9 r (nI nx)) 9 (r + 1) (-2)) 9 r = nI nx := by rw [mdS_ne (by omega), mdS_eq]
                    refine ih (r + 1) (mdS (mdS σ2 9 r (nI nx)) 9 (r + 1) (-2)) _ _ (rv_for (rv_F (fun v r => rv_suitM σ v r ev) (σ 4) many k r (σ1 9)) nx (rv_try (fun v r => rv_suitM σ v r ev) (σ 4) many k (r + 1) (upd (σ1 9) r (-1)) B)) (by omega) ((hF2.S9 r (nI nx)).S9 (r + 1) (-2)) (fun i hi => ?_) (by rw [hskip]; exact ((hB2.S9 r (nI nx)).S9 (r + 1) (-2))) (fun _ => mdS_eq _ _ _ _) hP hS (fun σ4 H locs hF4 hrow4 hB4 hP hS ls hl => ?_) ls (lv_sub hl [2, 3, 0] rfl)
                    · by_cases e : i = r
                      · rw [e, hrx]; exact Or.inr ⟨nx, hnm, rfl⟩
                      · rw [hrw i (by omega)]; exact hok i (by omega)
                    · rw [pk_m1] at hl
                      refine ihj (many - (nx + 1)) (by omega) (nx + 1) σ4 _ _ rfl (by omega) hF4 (fun i hi => by rw [hrow4 i (by omega)]; exact hrw i hi) (by rw [hrow4 r (by omega), hrx, pk_m1]) ?_ hP hS ls hl
                      have e : rv_for (rv_F (fun v r => rv_suitM σ v r ev) (σ 4) many k r (σ1 9)) (nx + 1) (rv_try (fun v r => rv_suitM σ v r ev) (σ 4) many k (r + 1) (upd (σ1 9) r (-1)) B) = (rv_F (fun v r => rv_suitM σ v r ev) (σ 4) many k r (σ1 9)) nx (rv_for (rv_F (fun v r => rv_suitM σ v r ev) (σ 4) many k r (σ1 9)) nx (rv_try (fun v r => rv_suitM σ v r ev) (σ 4) many k (r + 1) (upd (σ1 9) r (-1)) B)) := rfl
                      rw [e, rv_F, if_pos (by rw [← hM nx hnm]; exact hn4 (by omega))]
                      rw [rv_try_c (S := (fun v r => rv_suitM σ v r ev)) (S' := (fun v r => rv_suitM σ v r ev)) (cost := σ 4) (cost' := σ 4) (many := many) (k := k) (r := r + 1) (row := upd (σ1 9) r (nI nx)) (row' := (mdS (mdS σ2 9 r (nI nx)) 9 (r + 1) (-2)) 9) (by omega) (fun _ _ => rfl) (fun _ _ _ _ => rfl) (fun i hi => ?_) (hok.up (Or.inr ⟨nx, hnm, rfl⟩))]
                      · exact hB4
                      · unfold upd
                        by_cases e : i = r
                        · rw [if_pos e, e]; exact hrx.symm
                        · rw [if_neg e]; exact (hrw i (by omega)).symm
                · refine lv_iload_n hx hb dX5_layBest_99 rfl (lv_at hl 0 rfl) ?_
                  refine lv_iconst (v := (-1)) hx hb dX5_layBest_100 rfl ?_
                  refine lv_icmp_eq (tgt := 110) hx hb dX5_layBest_101 (by decide) (fun (c_101 : nI nx = (-1)) => ?_) (fun (c_101 : ¬ nI nx = (-1)) => ?_)
                  · exact absurd c_101 (rv_nIne nx (by omega))
                  · refine lv_iinc (v := (nI r) + (-1)) (lv' := [(2, .int ((nI r) + (-1))), (3, .int (nI nx)), (0, .ref n), (1, .int ev)]) hx hb dX5_layBest_104 hl (k := 3) rfl rfl (by decide) rfl (fun ls hl => ?_)
                    refine lv_goto (tgt := 129) hx hb dX5_layBest_107 (by decide) ?_
                    refine lv_goto (tgt := 25) hx hb dX5_layBest_129 (by decide) ?_
                    refine cont _ _ _ (hF2.S9 r (nI nx)) (fun i hi => by rw [mdS_ne (by omega)]; exact hrow i hi) ?_ hP hS ls (lv_sub hl [2, 3, 0] rfl)
                    rw [c_96] at hskip
                    rw [rv_try_s, hskip]
                    exact hB2.S9 r (nI nx)
              · exact absurd (by rw [hrr]; exact rv_nIm1 c_ (by omega)) c_54
            · exact absurd c_34 (by omega)
      have hr2 := hr2 (by omega)
      have hha : σ1 15 0 = nI hand := by rw [hF.2.2 0 (by decide) (by decide)]; exact hh
      have h0a : σ1 0 0 = nI many := by rw [hF.1 0 (by decide) (by decide) (by decide) (by decide)]; exact h0
      refine lv_iload_n hx hb dX5_layBest_25 rfl (lv_at hl 2 rfl) ?_
      refine lv_if_lt (tgt := 132) hx hb dX5_layBest_26 (by decide) (fun (c_26 : nI r < 0) => ?_) (fun (c_26 : ¬ nI r < 0) => ?_)
      · exact absurd c_26 (nI_pos (by omega))
      · refine lv_iload_n hx hb dX5_layBest_29 rfl (lv_at hl 2 rfl) ?_
        refine lv_aload_n hx hb dX5_layBest_30 rfl (lv_at hl 0 rfl) ?_
        refine md_g7 C hP dX5_layBest_31 ?_
        refine rn_co (y := nI hand) hha ?_
        refine rn_icmp_ne (tgt := 47) hx hb (by omega) (by omega) dX5_layBest_34 (by decide) (fun c_34 => ?_) (fun c_34 => ?_)
        · refine lv_aload_n hx hb dX5_layBest_47 rfl (lv_at hl 0 rfl) ?_
          refine md_g12 C hP dX5_layBest_48 ?_
          refine lv_iload_n hx hb dX5_layBest_51 rfl (lv_at hl 2 rfl) ?_
          refine md_l9 C hP (by omega) dX5_layBest_52 ?_
          refine lv_iconst (v := (-1)) hx hb dX5_layBest_53 rfl ?_
          refine lv_icmp_ge (tgt := 61) hx hb dX5_layBest_54 (by decide) (fun (c_54 : (-1) ≤ σ1 9 r) => ?_) (fun (c_54 : ¬ (-1) ≤ σ1 9 r) => ?_)
          · exact absurd (by rw [hr2] at c_54; exact c_54) (by decide : ¬ (-1 : Int32) ≤ -2)
          · refine lv_iconst (v := (-1)) hx hb dX5_layBest_57 rfl ?_
            refine lv_goto (tgt := 83) hx hb dX5_layBest_58 (by decide) ?_
            refine lv_istore_n (lv' := [(3, .int (-1)), (0, .ref n), (1, .int ev), (2, .int (nI r))]) hx hb dX5_layBest_83 rfl hl (by decide) rfl (fun ls hl => ?_)
            refine lv_aload_n hx hb dX5_layBest_84 rfl (lv_at hl 1 rfl) ?_
            refine md_g12 C hP dX5_layBest_85 ?_
            refine lv_iload_n hx hb dX5_layBest_88 rfl (lv_at hl 3 rfl) ?_
            refine lv_iload_n hx hb dX5_layBest_89 rfl (lv_at hl 0 rfl) ?_
            refine md_s9 C hP hS (by omega) dX5_layBest_90 (fun H locs hP hS => ?_)
            refine lv_iload_n hx hb dX5_layBest_91 rfl (lv_at hl 0 rfl) ?_
            refine lv_aload_n hx hb dX5_layBest_92 rfl (lv_at hl 1 rfl) ?_
            refine md_cSe (As := []) (rest := [.int (-1)]) C hP (met_views l dC dI dA n (mdS σ1 9 r (-1)) ab be) card_views rfl rfl ⟨Nat.le_of_ble_eq_true rfl, Nat.le_of_ble_eq_true rfl⟩ hl.1 (Nat.le_of_ble_eq_true rfl) dX5_layBest_93 ?_
            refine rn_co (y := nI many) (show mdS σ1 9 r (-1) 0 0 = nI many from by rw [mdS_o _ (by decide)]; exact h0a) ?_
            refine lv_icmp_ne (tgt := 110) hx hb dX5_layBest_96 (by decide) (fun (c_96 : ¬ (-1) = nI many) => ?_) (fun (c_96 : (-1) = nI many) => ?_)
            · refine rn_iinc (lv' := [(2, .int (nI (r + 1))), (3, .int (-1)), (0, .ref n), (1, .int ev)]) hx hb dX5_layBest_110 hl (k := 3) rfl (by decide) rfl (fun ls hl => ?_)
              refine lv_iload_n hx hb dX5_layBest_113 rfl (lv_at hl 0 rfl) ?_
              refine lv_aload_n hx hb dX5_layBest_114 rfl (lv_at hl 2 rfl) ?_
              refine md_g7 C hP dX5_layBest_115 ?_
              refine rn_co (y := nI hand) (show mdS σ1 9 r (-1) 15 0 = nI hand from by rw [mdS_o _ (by decide)]; exact hha) ?_
              refine rn_icmp_ge (tgt := 129) hx hb (by omega) (by omega) dX5_layBest_118 (by decide) (fun c_118 => ?_) (fun c_118 => ?_)
              · refine lv_goto (tgt := 25) hx hb dX5_layBest_129 (by decide) ?_
                have hrw : ∀ i, i < r → (mdS σ1 9 r (-1)) 9 i = σ1 9 i := fun i hi => by rw [mdS_ne (by omega)]
                have hrx : (mdS σ1 9 r (-1)) 9 r = -1 := by rw [mdS_eq]
                refine ih (r + 1) (mdS σ1 9 r (-1)) _ _ B (by omega) (hF.S9 r (-1)) (fun i hi => ?_) (hB.S9 r (-1)) (fun h => absurd h (by omega)) hP hS (fun σ4 H locs hF4 hrow4 hB4 hP hS ls hl => ?_) ls (lv_sub hl [2, 3, 0] rfl)
                · by_cases e : i = r
                  · rw [e, hrx]; exact Or.inl rfl
                  · rw [hrw i (by omega)]; exact hok i (by omega)
                · rw [pk_m1] at hl
                  refine KI _ 0 σ4 _ _ rfl (by omega) hF4 (fun i hi => by rw [hrow4 i (by omega)]; exact hrw i hi) (by rw [hrow4 r (by omega), hrx]; rfl) ?_ hP hS ls hl
                  show mdBst hand σ4 (rv_try (fun v r => rv_suitM σ v r ev) (σ 4) many k (r + 1) (upd (σ1 9) r (-1)) B)
                  rw [rv_try_c (S := (fun v r => rv_suitM σ v r ev)) (S' := (fun v r => rv_suitM σ v r ev)) (cost := σ 4) (cost' := σ 4) (many := many) (k := k) (r := r + 1) (row := upd (σ1 9) r (-1)) (row' := (mdS σ1 9 r (-1)) 9) (by omega) (fun _ _ => rfl) (fun _ _ _ _ => rfl) (fun i hi => ?_) (hok.up (Or.inl rfl))]
                  · exact hB4
                  · unfold upd
                    by_cases e : i = r
                    · rw [if_pos e, e]; exact hrx.symm
                    · rw [if_neg e]; exact (hrw i (by omega)).symm
              · refine lv_aload_n hx hb dX5_layBest_121 rfl (lv_at hl 2 rfl) ?_
                refine md_g12 C hP dX5_layBest_122 ?_
                refine lv_iload_n hx hb dX5_layBest_125 rfl (lv_at hl 0 rfl) ?_
                refine lv_bipush (v := (-2)) hx hb dX5_layBest_126 rfl ?_
                refine md_s9 C hP hS (by omega) dX5_layBest_128 (fun H locs hP hS => ?_)
                refine lv_goto (tgt := 25) hx hb dX5_layBest_129 (by decide) ?_
                have hrw : ∀ i, i < r → (mdS (mdS σ1 9 r (-1)) 9 (r + 1) (-2)) 9 i = σ1 9 i := fun i hi => by rw [mdS_ne (by omega), mdS_ne (by omega)]
                have hrx : (mdS (mdS σ1 9 r (-1)) 9 (r + 1) (-2)) 9 r = -1 := by rw [mdS_ne (by omega), mdS_eq]
                refine ih (r + 1) (mdS (mdS σ1 9 r (-1)) 9 (r + 1) (-2)) _ _ B (by omega) ((hF.S9 r (-1)).S9 (r + 1) (-2)) (fun i hi => ?_) ((hB.S9 r (-1)).S9 (r + 1) (-2)) (fun _ => mdS_eq _ _ _ _) hP hS (fun σ4 H locs hF4 hrow4 hB4 hP hS ls hl => ?_) ls (lv_sub hl [2, 3, 0] rfl)
                · by_cases e : i = r
                  · rw [e, hrx]; exact Or.inl rfl
                  · rw [hrw i (by omega)]; exact hok i (by omega)
                · rw [pk_m1] at hl
                  refine KI _ 0 σ4 _ _ rfl (by omega) hF4 (fun i hi => by rw [hrow4 i (by omega)]; exact hrw i hi) (by rw [hrow4 r (by omega), hrx]; rfl) ?_ hP hS ls hl
                  show mdBst hand σ4 (rv_try (fun v r => rv_suitM σ v r ev) (σ 4) many k (r + 1) (upd (σ1 9) r (-1)) B)
                  rw [rv_try_c (S := (fun v r => rv_suitM σ v r ev)) (S' := (fun v r => rv_suitM σ v r ev)) (cost := σ 4) (cost' := σ 4) (many := many) (k := k) (r := r + 1) (row := upd (σ1 9) r (-1)) (row' := (mdS (mdS σ1 9 r (-1)) 9 (r + 1) (-2)) 9) (by omega) (fun _ _ => rfl) (fun _ _ _ _ => rfl) (fun i hi => ?_) (hok.up (Or.inl rfl))]
                  · exact hB4
                  · unfold upd
                    by_cases e : i = r
                    · rw [if_pos e, e]; exact hrx.symm
                    · rw [if_neg e]; exact (hrw i (by omega)).symm
            · exact absurd c_96.symm (rv_nIne many (by omega))
        · exact absurd c_34 (by omega)
  refine lv_aload_n hx hb dX5_layBest_0 rfl (lv_at hl 0 rfl) ?_
  refine lv_iload_n hx hb dX5_layBest_1 rfl (lv_at hl 1 rfl) ?_
  refine md_cWv (As := [.int ev]) (rest := []) C hP hS (met_laySuit l dC dI dA n σ ab be ev many h0 hm hand hh hh7) card_laySuit rfl rfl ⟨Nat.le_of_ble_eq_true rfl, Nat.le_of_ble_eq_true rfl⟩ hl.1 (Nat.le_of_ble_eq_true rfl) dX5_layBest_2 (fun s2 H locs hs2 hP hS => ?_)
  refine lv_aload_n hx hb dX5_layBest_5 rfl (lv_at hl 0 rfl) ?_
  refine lv_iconst (v := (-1)) hx hb dX5_layBest_6 rfl ?_
  refine md_p14 C hP hS dX5_layBest_7 (fun H locs hP hS => ?_)
  refine lv_aload_n hx hb dX5_layBest_10 rfl (lv_at hl 0 rfl) ?_
  refine lv_iconst (v := nI 0) hx hb dX5_layBest_11 rfl ?_
  refine md_p15 C hP hS dX5_layBest_12 (fun H locs hP hS => ?_)
  refine lv_iconst (v := nI 0) hx hb dX5_layBest_15 rfl ?_
  refine lv_istore_n (lv' := [(2, .int (nI 0)), (0, .ref n), (1, .int ev)]) hx hb dX5_layBest_16 rfl hl (by decide) rfl (fun ls hl => ?_)
  refine lv_aload_n hx hb dX5_layBest_17 rfl (lv_at hl 1 rfl) ?_
  refine md_g12 C hP dX5_layBest_18 ?_
  refine lv_iconst (v := nI 0) hx hb dX5_layBest_21 rfl ?_
  refine lv_bipush (v := (-2)) hx hb dX5_layBest_22 rfl ?_
  refine md_s9 C hP hS (by omega) dX5_layBest_24 (fun H locs hP hS => ?_)
  refine KB hand 0 (mdS (mdS (mdS s2 15 1 (-1)) 15 2 (nI 0)) 9 0 (-2)) _ _ (-1, 0, s2 10) (by omega) ⟨fun a a8 a9 a10 a15 => by rw [mdS_row _ _ _ a9, mdS_row _ _ _ a15, mdS_row _ _ _ a15]; exact hs2.1 a a8, fun r hr => by rw [mdS_o _ (by decide), mdS_o _ (by decide), mdS_o _ (by decide)]; exact hs2.2 r hr, fun j j1 j2 => by rw [mdS_o _ (by decide), mdS_ne j2, mdS_ne j1]; exact congrFun (hs2.1 15 (by decide)) j⟩ (fun i hi => absurd hi (Nat.not_lt_zero i)) ⟨by rw [mdS_o _ (by decide), mdS_ne (by decide), mdS_eq], by rw [mdS_o _ (by decide), mdS_eq]; rfl, fun i hi => by rw [mdS_o _ (by decide), mdS_o _ (by decide), mdS_o _ (by decide)]⟩ (fun _ => mdS_eq _ _ _ _) hP hS (fun σ4 H locs hF4 hrow4 hB4 hP hS ls hl => ?_) ls (lv_sub hl [1, 2, 0] rfl)
  refine lv_iload_n hx hb dX5_layBest_25 rfl (lv_at hl 2 rfl) ?_
  refine lv_if_lt (tgt := 132) hx hb dX5_layBest_26 (by decide) (fun (c_26 : nI 0 + (-1) < 0) => ?_) (fun (c_26 : ¬ nI 0 + (-1) < 0) => ?_)
  · exact md_rv C hr hlk hP hS dX5_layBest_132 ⟨hF4.1, hF4.2.2, by rw [rv_try_first (by omega) 0 0 (fun _ => 0) (s2 10), rv_try_c (S := (fun v r => rv_suitM σ v r ev)) (S' := (fun v r => rv_suitM σ v r ev)) (cost := σ 4) (cost' := σ 4) (many := many) (k := hand) (r := 0) (row := fun _ => 0) (row' := (mdS (mdS (mdS s2 15 1 (-1)) 15 2 (nI 0)) 9 0 (-2)) 9) (by omega) (fun _ _ => rfl) (fun _ _ _ _ => rfl) (fun i hi => absurd hi (Nat.not_lt_zero i)) (fun i hi => absurd hi (Nat.not_lt_zero i))]; exact hB4⟩
  · exact absurd (by decide) c_26
