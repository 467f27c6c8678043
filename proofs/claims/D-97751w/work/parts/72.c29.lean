set_option maxRecDepth 100000
/-! the component: the reader reads -/
theorem xkv_X3_81 : xKV RX3 yX3_item cX3_item 4 none 81 0 := ⟨q520, q522, qs9, q64, q523, by decide +kernel⟩
theorem xkv_X3_72 : xKV RX3 yX1_begins cX1_begins 1 none 72 0 := ⟨q440, q244, q245, q62, q246, by decide +kernel⟩
section RDR
variable {T : Nat → Int32} {tl p k : Nat} {A : Nat → Int32} {n : Int32}
theorem rd_r0 (h : tkW T tl 0 (lnW 0) (chW 0) = false) : rv_read T tl = ((-10) - nI (tkA T tl 0), false, fun _ => 0) := by unfold rv_read; rw [rd_w0, if_neg (rv_nf h)]
theorem rd_r1 (h : tkW T tl 0 (lnW 0) (chW 0) = true) (g : ¬ tkK T tl (tkN T tl 0) = 3) : rv_read T tl = ((-10) - nI (tkA T tl (tkN T tl 0)), false, fun _ => 0) := by unfold rv_read; rw [rd_w0, if_pos h, if_neg g]
theorem rd_r2 (h : tkW T tl 0 (lnW 0) (chW 0) = true) (g : tkK T tl (tkN T tl 0) = 3) : rv_read T tl = rv_rdl T tl (tl - tkN T tl (tkN T tl 0) + 1) (tkN T tl (tkN T tl 0)) (fun _ => 0) 1 := by unfold rv_read; rw [rd_w0, if_pos h, if_pos g]
theorem rd_k0 (h : tkK T tl 0 = 0) : tkW T tl 0 (lnW 0) (chW 0) = false := by unfold tkW; rw [decide_eq_false (by omega)]; rfl
theorem rd_l0 (hk : 0 < k) (h : tkK T tl p = 0) : rv_rdl T tl k p A n = (n, true, A) := by
  obtain ⟨j, rfl⟩ : ∃ j, k = j + 1 := ⟨k - 1, by omega⟩
  rw [rv_rdl, if_pos h]
theorem rd_l1 (hk : 0 < k) (h : ¬ tkK T tl p = 0) (g : (rv_item T tl p A).1 = false) : rv_rdl T tl k p A n = ((-10) - nI (tkA T tl (rv_item T tl p A).2.1), false, A) := by
  obtain ⟨j, rfl⟩ : ∃ j, k = j + 1 := ⟨k - 1, by omega⟩
  rw [rv_rdl, if_neg h, if_neg (rv_nf g)]
theorem rd_l2 (hk : 0 < k) (h : ¬ tkK T tl p = 0) (g : (rv_item T tl p A).1 = true) (q : ¬ tkK T tl (rv_item T tl p A).2.1 = 3) : rv_rdl T tl k p A n = ((-10) - nI (tkA T tl (rv_item T tl p A).2.1), false, A) := by
  obtain ⟨j, rfl⟩ : ∃ j, k = j + 1 := ⟨k - 1, by omega⟩
  rw [rv_rdl, if_neg h, if_pos g, if_neg q]
theorem rd_l3 (hk : 0 < k) (h : ¬ tkK T tl p = 0) (g : (rv_item T tl p A).1 = true) (q : tkK T tl (rv_item T tl p A).2.1 = 3) : rv_rdl T tl k p A n = rv_rdl T tl (k - 1) (tkN T tl (rv_item T tl p A).2.1) (rv_item T tl p A).2.2 (n + 1) := by
  obtain ⟨j, rfl⟩ : ∃ j, k = j + 1 := ⟨k - 1, by omega⟩
  rw [rv_rdl, if_neg h, if_pos g, if_pos q]; rfl
end RDR
def rdY (ξ u : mdT) : Prop := ∀ a, a < 44 ∨ 87 ≤ a → a ≠ 90 → u a = ξ a
theorem rdY.fr {ξ v u : mdT} (h : rdY ξ v) (g : ∀ a, a ≠ 90 → u a = v a) : rdY ξ u := fun a ha h9 => (g a h9).trans (h a ha h9)
theorem rdY.X {ξ v u : mdT} (h : rdY ξ v) (g : rdX v u) : rdY ξ u := fun a ha h9 => (g.1 a ha h9).trans (h a ha h9)
theorem rdAt.le {T : Nat → Int32} {tl p : Nat} (h : p ≤ tl) : p ≤ tkN T tl p := by have := (tkA_b (T := T) h).1; show p ≤ tkA T tl p + tkL T tl p; omega
set_option maxHeartbeats 4000000 in
theorem x_X3_reads (l : Launch) (dC : Nat → ClassId) (dI : Nat → Nat → Nat) (dA : Nat → ClassId) (n : Nat) (ξ : mdT) (V : Nat → Option Nat) (V2 : Nat → Option Nat) (im : Nat → Option Nat) (ab : Int64) (be : Int64) (adK adV : Nat → Nat) (fm us sb : Nat) (z : Nat) (ty : Nat) (ht : ξ 0 0 = nI ty) (ht6 : ty ≤ 150) (tx : Nat → Int32) (hT : ∀ k_, k_ < ty → ξ 88 k_ = tx k_) (c : Nat) (g : Nat → Int32) (T : Nat → Prop) (hTb : ∀ a_, T a_ → ¬ bkA n 96 a_) (hTz : ∀ a_, z ≤ a_ → T a_) (m0 : Nat) (f0 : Nat → Int32) (hnz : n ≤ z) : MetT l yX3_reads (ws_ yX3_reads cX3_reads 2 (some .int)) { frames := 7, cells := 1300, slots := 10200, locals := 420 } (xPz dC dI dA (xZr n adK adV fm us sb) (fun H => (bkP dC dI n 96 (xE dA n ξ V V2 im ab be) H ∧ shV dC dI T m0 f0 V2 H) ∧ H.size = z) [.ref (n + 90)]) (xQT ((rv_read tx ty).2.1) (xQi (S := mdT × (Nat → Option Nat)) (fun r_ u => r_ = (rv_read tx ty).1 ∧ rdY ξ u.1) (fun u => rdW dC dI dA c T n (rv_read tx ty).2.2 g u.1 V u.2 im ab be) (fun q => bkA n 96 q ∨ z ≤ q)) (fun x H => (∃ u V3 A_, rdY ξ u ∧ rdW dC dI dA c T n A_ g u V V3 im ab be H) ∧ ∃ pl, ftP dC dI x (ft0 pl) H ∧ (-10) - pl = (rv_read tx ty).1) (fun q => bkA n 96 q ∨ z ≤ q)) 1300 10200 (fun q => bkA n 96 q ∨ z ≤ q) := by
  refine x_inT (by decide) rfl (Nat.le_of_ble_eq_true rfl) (lv := [(0, .ref (n + 90))]) rfl ?_
  intro p e s m below meth c_ X hN hnm hr hlk hne hP hZs ls hl
  obtain ⟨⟨hP, hVa0⟩, hze⟩ := hP
  have hz0 : z ≤ s.heap.size := by omega
  have hS : va_S (fun q => bkA n 96 q ∨ z ≤ q) s.heap s.heap [] := va_S.rf
  have K42 : ∀ (k42_ : Nat) (cnt : Nat) (p_ : Nat) (A : Nat → Int32) (many : Nat) (rent : Nat) (k_ : Nat) (ξ1 : mdT) (V3 : Nat → Option Nat) (H : Heap) (locs : List Loc), ty - p_ = k42_ → (p_ ≤ ty) → (cnt ≤ p_) → (ty < k_ + p_) → (rv_read tx ty = rv_rdl tx ty k_ p_ A (nI cnt)) → (rdY ξ ξ1) → (ξ1 90 4 = nI 1) → (rdAt tx ty p_ ξ1) → (shR c many rent 0 0 0 0 (rdF A g) (fun i => ξ1 (44 + i))) → bkP dC dI n 96 (xE dA n ξ1 V V3 im ab be) H → va_S (fun q => bkA n 96 q ∨ z ≤ q) s.heap H locs → (shV dC dI T many (rdF A g) V3 H) → ∀ ls, lv_has ls 2 [(0, .ref (n + 90)), (1, .int (nI cnt))] → W p l e { frames := 7, cells := 1300, slots := 10200, locals := 420 } s m [.ref (n + 90)].toArray below meth c_ H locs (8 * cnt + 3) (67 * cnt + 21) (MQT below (xQT ((rv_read tx ty).2.1) (xQi (S := mdT × (Nat → Option Nat)) (fun r_ u => r_ = (rv_read tx ty).1 ∧ rdY ξ u.1) (fun u => rdW dC dI dA c T n (rv_read tx ty).2.2 g u.1 V u.2 im ab be) (fun q => bkA n 96 q ∨ z ≤ q)) (fun x H => (∃ u V3 A_, rdY ξ u ∧ rdW dC dI dA c T n A_ g u V V3 im ab be H) ∧ ∃ pl, ftP dC dI x (ft0 pl) H ∧ (-10) - pl = (rv_read tx ty).1) (fun q => bkA n 96 q ∨ z ≤ q)) [.ref (n + 90)].toArray s 1300 10200 (fun q => bkA n 96 q ∨ z ≤ q)) (F0 m 42 ls []) := by
    intro k42_
    induction k42_ using Nat.strongRecOn with
    | _ k42_ ih42 =>
      intro cnt p_ A many rent k_ ξ1 V3 H locs hm42_ hp hc hk_ hrd hY hbg hat hRa hP hS hVa ls hl
      have ht : ξ1 0 0 = nI ty := by rw [hY 0 (by decide) (by decide)]; exact ht
      have hT : ∀ k_, k_ < ty → ξ1 88 k_ = tx k_ := fun k_ h_ => by rw [hY 88 (by decide) (by decide)]; exact hT k_ h_
      have hk5 := tkK_b (T := tx) (tl := ty) (p := p_)
      have hrk := rk_b hk5
      have hk0 : 0 < k_ := by omega
      refine lv_aload_n X.1 X.2.1 dX3_reads_42 rfl (lv_at hl 0 rfl) ?_
      refine xb_get (C := RX3) (T := TX3) (v := .int (ξ1 90 2)) X in_X3 (ci := 3) rfl hP (j := 90) (by decide) (xe_x90 ..) 2 (by decide) q197 rfl rfl dX3_reads_43 ?_
      refine rn_co (y := nI (rk (tkK tx ty p_))) hat.2.2.1 ?_
      refine rn_if_eq (tgt := 80) X.1 X.2.1 (by omega) dX3_reads_46 (by decide) (fun c_46 => ?_) (fun c_46 => ?_)
      · refine lv_iload_n X.1 X.2.1 dX3_reads_80 rfl (lv_at hl 1 rfl) ?_
        refine W.pad (cells2 := 1300) (slots2 := 10200) (by omega) (by omega) ?_
        refine W.monoT (by rw [hrd, rd_l0 hk0 ((rk0 hk5).mp c_46)]) ?_
        exact x_ri (ξ1, V3) X hr hlk hS dX3_reads_81 ⟨by rw [hrd, rd_l0 hk0 ((rk0 hk5).mp c_46)], hY⟩ (by rw [hrd, rd_l0 hk0 ((rk0 hk5).mp c_46)]; exact ⟨many, rent, hP, hRa, hVa⟩)
      · refine lv_aload_n X.1 X.2.1 dX3_reads_49 rfl (lv_at hl 0 rfl) ?_
        refine x_okC ((rv_item tx ty p_ A).1) (fun ok50 => ?_) (fun ok50 => ?_)
        · exact x_prop (x_runVT (xZr_w n adK adV fm us sb) X hN ⟨⟨many, rent, hP, hRa, hVa⟩, rfl⟩ (hZs.at hS hnz) (As := []) (rest := []) (x_X3_item_1 l dC dI dA n ξ1 V V3 im ab be adK adV fm us sb H.size ty ht ht6 tx hT p_ hp hat hbg c A g T hTb (fun a_ h_ => hTz a_ (Nat.le_trans (Nat.le_trans hz0 hS.1) h_)) (Nat.le_trans hnz (Nat.le_trans hz0 hS.1))) ok50 xkv_X3_81 (x_recv (ci := 3) X.2.2.2.2.2 hP (j := 90) (by decide) (xe_x90 ..) rfl) rfl rfl ⟨Nat.le_of_ble_eq_true rfl, Nat.le_of_ble_eq_true rfl⟩ hl.1 (Nat.le_of_ble_eq_true rfl) dX3_reads_50 (by constructor <;> (dsimp only; omega))) hne hlk hS (fun q h => h.elim Or.inl (fun h => Or.inr (Nat.le_trans (Nat.le_trans hz0 hS.1) h))) (fun q h => h.elim Or.inl (fun h => Or.inr (Nat.le_trans (Nat.le_trans hz0 hS.1) h))) (by rw [hrd, rd_l1 hk0 (fun z_ => c_46 ((rk0 hk5).mpr z_)) ok50]) (fun x H1 h_ hz_ hk_ => ⟨(by obtain ⟨⟨u_, g1, g2⟩, g3⟩ := h_; exact ⟨u_, V3, A, hY.X g1, g2⟩), nI (tkA tx ty (rv_item tx ty p_ A).2.1), h_.2, by rw [hrd, rd_l1 hk0 (fun z_ => c_46 ((rk0 hk5).mpr z_)) ok50]⟩) (by omega) (by omega)
        refine x_cWv (x_runVW (xZr_w n adK adV fm us sb) X hN ⟨⟨many, rent, hP, hRa, hVa⟩, rfl⟩ (hZs.at hS hnz) (As := []) (rest := []) (MetT.metb (x_X3_item_1 l dC dI dA n ξ1 V V3 im ab be adK adV fm us sb H.size ty ht ht6 tx hT p_ hp hat hbg c A g T hTb (fun a_ h_ => hTz a_ (Nat.le_trans (Nat.le_trans hz0 hS.1) h_)) (Nat.le_trans hnz (Nat.le_trans hz0 hS.1))) ok50 xQv_ret) xkv_X3_81 (x_recv (ci := 3) X.2.2.2.2.2 hP (j := 90) (by decide) (xe_x90 ..) rfl) rfl rfl ⟨Nat.le_of_ble_eq_true rfl, Nat.le_of_ble_eq_true rfl⟩ hl.1 (Nat.le_of_ble_eq_true rfl) dX3_reads_50 (by constructor <;> (dsimp only; omega))) hS (fun q h => h.elim Or.inl (fun h => Or.inr (Nat.le_trans (Nat.le_trans hz0 hS.1) h))) (fun q h => h.elim Or.inl (fun h => Or.inr (Nat.le_trans (Nat.le_trans hz0 hS.1) h))) (fun u50 H locs hu50 hP1 hz1 hk1 hS => ?_)
        obtain ⟨many, rent, hP, hRa, hVa⟩ := hP1
        have hY := hY.X hu50.1
        have hat := hu50.2
        have ht := (congrFun (hu50.1.1 0 (by decide) (by decide)) 0).trans ht
        have hT := fun k_ h_ => (congrFun (hu50.1.1 88 (by decide) (by decide)) k_).trans (hT k_ h_)
        have hbg : u50.1 90 4 = nI 1 := (hu50.1.2 4 (by omega)).trans hbg
        have hit := rv_item_ok (T := tx) (A := A) hp
        have hk5b := tkK_b (T := tx) (tl := ty) (p := (rv_item tx ty p_ A).2.1)
        have hrkb := rk_b hk5b
        have hp2 := hit.2.1 ok50
        have hp := hit.1
        refine lv_aload_n X.1 X.2.1 dX3_reads_53 rfl (lv_at hl 0 rfl) ?_
        refine lv_aload_n X.1 X.2.1 dX3_reads_54 rfl (lv_at hl 0 rfl) ?_
        refine xb_get (C := RX3) (T := TX3) (v := .int (u50.1 90 2)) X in_X3 (ci := 3) rfl hP (j := 90) (by decide) (xe_x90 ..) 2 (by decide) q197 rfl rfl dX3_reads_55 ?_
        refine rn_co (y := nI (rk (tkK tx ty (rv_item tx ty p_ A).2.1))) hat.2.2.1 ?_
        refine lv_iconst (v := nI 3) X.1 X.2.1 dX3_reads_58 rfl ?_
        refine rn_icmp_ne (tgt := 66) X.1 X.2.1 (by omega) (by omega) dX3_reads_59 (by decide) (fun c_59 => ?_) (fun c_59 => ?_)
        · refine lv_iconst (v := nI 0) X.1 X.2.1 dX3_reads_66 rfl ?_
          skip
          exact x_prop (x_runVT (xZr_w n adK adV fm us sb) X hN ⟨hP, Nat.le_refl _⟩ (hZs.at hS hnz) (As := [.int (rb_i false)]) (rest := []) (x_X3_wants l dC dI dA n u50.1 V u50.2 im ab be adK adV fm us sb H.size false) rfl xkv_X3_61 (x_recv (ci := 3) X.2.2.2.2.2 hP (j := 90) (by decide) (xe_x90 ..) rfl) rfl rfl ⟨Nat.le_of_ble_eq_true rfl, Nat.le_of_ble_eq_true rfl⟩ hl.1 (Nat.le_of_ble_eq_true rfl) dX3_reads_67 (by constructor <;> (dsimp only; omega))) hne hlk hS (fun q h => h.elim Or.inl (fun h => Or.inr (Nat.le_trans (Nat.le_trans hz0 hS.1) h))) (fun q h => h.elim Or.inl (fun h => Or.inr (Nat.le_trans (Nat.le_trans hz0 hS.1) h))) (by rw [hrd, rd_l2 hk0 (fun z_ => c_46 ((rk0 hk5).mpr z_)) ok50 (fun z_ => c_59 ((rk3 hk5b).mpr z_))]) (fun x H1 h_ hz_ hk_ => ⟨⟨u50.1, u50.2, (rv_item tx ty p_ A).2.2, hY, many, rent, h_.1, hRa, hVa.step hTb hk_⟩, u50.1 90 1, h_.2, by rw [hrd, rd_l2 hk0 (fun z_ => c_46 ((rk0 hk5).mpr z_)) ok50 (fun z_ => c_59 ((rk3 hk5b).mpr z_)), hat.2.1]⟩) (by omega) (by omega)
        · refine lv_iconst (v := nI 1) X.1 X.2.1 dX3_reads_62 rfl ?_
          refine lv_goto (tgt := 67) X.1 X.2.1 dX3_reads_63 (by decide) ?_
          refine x_cWv (x_runVW (xZr_w n adK adV fm us sb) X hN ⟨hP, Nat.le_refl _⟩ (hZs.at hS hnz) (As := [.int (rb_i true)]) (rest := []) (MetT.metb (x_X3_wants l dC dI dA n u50.1 V u50.2 im ab be adK adV fm us sb H.size true) rfl xQv_ret) xkv_X3_61 (x_recv (ci := 3) X.2.2.2.2.2 hP (j := 90) (by decide) (xe_x90 ..) rfl) rfl rfl ⟨Nat.le_of_ble_eq_true rfl, Nat.le_of_ble_eq_true rfl⟩ hl.1 (Nat.le_of_ble_eq_true rfl) dX3_reads_67 (by constructor <;> (dsimp only; omega))) hS (fun q h => h.elim Or.inl (fun h => Or.inr (Nat.le_trans (Nat.le_trans hz0 hS.1) h))) (fun q h => h.elim Or.inl (fun h => Or.inr (Nat.le_trans (Nat.le_trans hz0 hS.1) h))) (fun _ H locs _ hP1 hz1 hk1 hS => ?_)
          have hP := hP1
          have hVa := hVa.step hTb hk1
          refine lv_aload_n X.1 X.2.1 dX3_reads_70 rfl (lv_at hl 0 rfl) ?_
          refine x_cWv (x_runV X hN hP (As := []) (rest := []) (x_X3_scans l dC dI dA n u50.1 V u50.2 im ab be ty ht ht6 tx hT (tkN tx ty (rv_item tx ty p_ A).2.1) hat.1 (tkN_b hp)) xkv_X3_65 (x_recv (ci := 3) X.2.2.2.2.2 hP (j := 90) (by decide) (xe_x90 ..) rfl) rfl rfl ⟨Nat.le_of_ble_eq_true rfl, Nat.le_of_ble_eq_true rfl⟩ hl.1 (Nat.le_of_ble_eq_true rfl) dX3_reads_71 (by constructor <;> (dsimp only; omega))) hS (fun _ h => Or.inl h) (fun _ h => Or.inl h) (fun u71 H locs hu71 hP1 hz1 hk1 hS => ?_)
          have hP := hP1
          have ht := (congrFun (hu71.1.1 0 (by decide)) 0).trans ht
          have hT := fun k_ h_ => (congrFun (hu71.1.1 88 (by decide)) k_).trans (hT k_ h_)
          have hVa := hVa.step96 hTb hk1
          have hY := hY.fr hu71.1.1
          have hRa := hRa.cg (S' := fun i => u71 (44 + i)) (fun i hi => hu71.1.1 (44 + i) (by omega)) (fun _ _ => rfl)
          have hat := hu71.2
          have hp := tkN_b (T := tx) hp
          have hbg := (hu71.1.2 4 (by omega)).trans hbg
          refine rn_iinc (lv' := [(1, .int (nI (cnt + 1))), (0, .ref (n + 90))]) X.1 X.2.1 dX3_reads_74 hl (k := 1) rfl (by decide) rfl (fun ls hl => ?_)
          refine lv_goto (tgt := 42) X.1 X.2.1 dX3_reads_77 (by decide) ?_
          refine W.pad (cells2 := 8 * (cnt + 1) + 3) (slots2 := 67 * (cnt + 1) + 21) (by omega) (by omega) ?_
          exact ih42 _ (by have := rdAt.le (T := tx) hit.1; omega) (cnt + 1) (tkN tx ty (rv_item tx ty p_ A).2.1) ((rv_item tx ty p_ A).2.2) many rent (k_ - 1) u71 u50.2 _ _ rfl hp (by have := rdAt.le (T := tx) hit.1; omega) (by have := rdAt.le (T := tx) hit.1; omega) (by rw [nI_succ]; exact hrd.trans (rd_l3 hk0 (fun z_ => c_46 ((rk0 hk5).mpr z_)) ok50 ((rk3 hk5b).mp c_59))) hY hbg hat hRa hP hS hVa ls (lv_sub hl [1, 0] rfl)
  refine lv_aload_n X.1 X.2.1 dX3_reads_0 rfl (lv_at hl 0 rfl) ?_
  refine xb_get (C := RX3) (T := TX3) (v := .ref n) X in_X3 (ci := 3) rfl hP (j := 90) (by decide) (xe_x90 ..) 5 (by decide) q200 rfl rfl dX3_reads_1 ?_
  refine xb_getN (host := "RentedViews") (C := RX0) (T := TX0) (v := .ref (n + 44)) X in_X0 (ci := 0) rfl hP (j := 0) (by decide) (xe_x0 ..) 1 (by decide) (x_nest hN q250 rfl) rfl rfl dX3_reads_4 ?_
  refine x_cWv (x_runV X hN (x_aside hP) (As := []) (rest := []) (x_X1_begins l dC dI dA (n + 44) (fun i_ => ξ (44 + i_)) V2 c g) xkv_X3_72 (x_recv (ci := 1) X.2.2.2.2.2 hP (j := 44) (by decide) (xe_x44 ..) rfl) rfl rfl ⟨Nat.le_of_ble_eq_true rfl, Nat.le_of_ble_eq_true rfl⟩ hl.1 (Nat.le_of_ble_eq_true rfl) dX3_reads_7 ⟨Nat.le_of_ble_eq_true rfl, Nat.le_of_ble_eq_true rfl⟩) hS (fun q h => Or.inl (by unfold bkA at *; omega)) (fun q h => Or.inl (by unfold bkA at *; omega)) (fun uh H locs huh hP1 hz1 hk1 hS => ?_)
  have hP := x_asideI hP hP1 (fun q h1 h2 => hk1 q (bk_sz hP h1) h2)
  refine lv_aload_n X.1 X.2.1 dX3_reads_10 rfl (lv_at hl 0 rfl) ?_
  refine lv_iconst (v := nI 0) X.1 X.2.1 dX3_reads_11 rfl ?_
  refine xb_put (C := RX3) (T := TX3) (E' := xE dA n (mdS (mdI ξ 44 43 uh) 90 0 (nI 0)) V V2 im ab be) X in_X3 tyX3 tyX3_ok nmX3 (ci := 3) rfl hP (fun _ h => Or.inl h) hS (j := 90) (by decide) (xe_x90 ..) 0 (by decide) q195 rfl rfl rfl rfl rfl (Nat.le_of_ble_eq_true rfl) (fun i_ _ => xE_S dA n (mdI ξ 44 43 uh) V V2 im ab be 90 0 (nI 0) i_) dX3_reads_12 (fun H locs hP hS => ?_)
  refine lv_aload_n X.1 X.2.1 dX3_reads_15 rfl (lv_at hl 0 rfl) ?_
  refine lv_iconst (v := nI 0) X.1 X.2.1 dX3_reads_16 rfl ?_
  refine xb_put (C := RX3) (T := TX3) (E' := xE dA n (mdS (mdS (mdI ξ 44 43 uh) 90 0 (nI 0)) 90 4 (nI 0)) V V2 im ab be) X in_X3 tyX3 tyX3_ok nmX3 (ci := 3) rfl hP (fun _ h => Or.inl h) hS (j := 90) (by decide) (xe_x90 ..) 4 (by decide) q199 rfl rfl rfl rfl rfl (Nat.le_of_ble_eq_true rfl) (fun i_ _ => xE_S dA n (mdS (mdI ξ 44 43 uh) 90 0 (nI 0)) V V2 im ab be 90 4 (nI 0) i_) dX3_reads_17 (fun H locs hP hS => ?_)
  refine lv_iconst (v := nI 0) X.1 X.2.1 dX3_reads_20 rfl ?_
  refine lv_istore_n (lv' := [(1, .int (nI 0)), (0, .ref (n + 90))]) X.1 X.2.1 dX3_reads_21 rfl hl (by decide) rfl (fun ls hl => ?_)
  have hVa : shV dC dI T 0 (rdF (fun _ => 0) g) V2 H := shV.step0 (H := s.heap) ⟨hVa0.1, fun v h_ => absurd h_ (by omega)⟩ (fun q hq ht => hS.2.1 q hq (fun y => y.elim (hTb q ht) (fun y => by omega)))
  have hRa : shR c 0 0 0 0 0 0 (rdF (fun _ => 0) g) (fun i => (mdS (mdS (mdI ξ 44 43 uh) 90 0 (nI 0)) 90 4 (nI 0)) (44 + i)) := (xRa_I (w := ξ) huh).cg (fun i hi => by rw [mdS_row _ _ _ (by omega), mdS_row _ _ _ (by omega)]) (fun _ _ => rfl)
  have hY : rdY ξ (mdS (mdS (mdI ξ 44 43 uh) 90 0 (nI 0)) 90 4 (nI 0)) := fun a ha h9 => by rw [mdS_row _ _ _ h9, mdS_row _ _ _ h9, mdI_out _ _ (by omega)]
  have ht : (mdS (mdS (mdI ξ 44 43 uh) 90 0 (nI 0)) 90 4 (nI 0)) 0 0 = nI ty := by rw [hY 0 (by decide) (by decide)]; exact ht
  have hT : ∀ k_, k_ < ty → (mdS (mdS (mdI ξ 44 43 uh) 90 0 (nI 0)) 90 4 (nI 0)) 88 k_ = tx k_ := fun k_ h_ => by rw [hY 88 (by decide) (by decide)]; exact hT k_ h_
  obtain ⟨many, em⟩ : ∃ x, x = 0 := ⟨_, rfl⟩
  obtain ⟨rent, er_⟩ : ∃ x, x = 0 := ⟨_, rfl⟩
  rw [← em] at hVa
  have hRa : shR c many rent 0 0 0 0 (rdF (fun _ => 0) g) (fun i => (mdS (mdS (mdI ξ 44 43 uh) 90 0 (nI 0)) 90 4 (nI 0)) (44 + i)) := by rw [em, er_]; exact hRa
  refine lv_aload_n X.1 X.2.1 dX3_reads_22 rfl (lv_at hl 1 rfl) ?_
  refine x_cWv (x_runV X hN hP (As := []) (rest := []) (x_X3_scans l dC dI dA n (mdS (mdS (mdI ξ 44 43 uh) 90 0 (nI 0)) 90 4 (nI 0)) V V2 im ab be ty ht ht6 tx hT 0 rfl (Nat.zero_le _)) xkv_X3_65 (x_recv (ci := 3) X.2.2.2.2.2 hP (j := 90) (by decide) (xe_x90 ..) rfl) rfl rfl ⟨Nat.le_of_ble_eq_true rfl, Nat.le_of_ble_eq_true rfl⟩ hl.1 (Nat.le_of_ble_eq_true rfl) dX3_reads_23 ⟨Nat.le_of_ble_eq_true rfl, Nat.le_of_ble_eq_true rfl⟩) hS (fun _ h => Or.inl h) (fun _ h => Or.inl h) (fun u23 H locs hu23 hP1 hz1 hk1 hS => ?_)
  have hP := hP1
  have ht := (congrFun (hu23.1.1 0 (by decide)) 0).trans ht
  have hT := fun k_ h_ => (congrFun (hu23.1.1 88 (by decide)) k_).trans (hT k_ h_)
  have hVa := hVa.step96 hTb hk1
  have hY := hY.fr hu23.1.1
  have hRa := hRa.cg (S' := fun i => u23 (44 + i)) (fun i hi => hu23.1.1 (44 + i) (by omega)) (fun _ _ => rfl)
  have hat := hu23.2
  have hp := Nat.zero_le ty
  have hbg : u23 90 4 = nI 0 := (hu23.1.2 4 (by omega)).trans rfl
  have hk5 := tkK_b (T := tx) (tl := ty) (p := 0)
  have hrk := rk_b hk5
  refine lv_aload_n X.1 X.2.1 dX3_reads_26 rfl (lv_at hl 1 rfl) ?_
  refine lv_aload_n X.1 X.2.1 dX3_reads_27 rfl (lv_at hl 1 rfl) ?_
  refine xb_get (C := RX3) (T := TX3) (v := .int (u23 90 2)) X in_X3 (ci := 3) rfl hP (j := 90) (by decide) (xe_x90 ..) 2 (by decide) q197 rfl rfl dX3_reads_28 ?_
  refine rn_co (y := nI (rk (tkK tx ty 0))) hat.2.2.1 ?_
  refine rn_if_eq (tgt := 38) X.1 X.2.1 (by omega) dX3_reads_31 (by decide) (fun c_31 => ?_) (fun c_31 => ?_)
  · refine lv_iconst (v := nI 0) X.1 X.2.1 dX3_reads_38 rfl ?_
    skip
    exact x_prop (x_runVT (xZr_w n adK adV fm us sb) X hN ⟨hP, Nat.le_refl _⟩ (hZs.at hS hnz) (As := [.int (rb_i false)]) (rest := []) (x_X3_wants l dC dI dA n u23 V V2 im ab be adK adV fm us sb H.size false) rfl xkv_X3_61 (x_recv (ci := 3) X.2.2.2.2.2 hP (j := 90) (by decide) (xe_x90 ..) rfl) rfl rfl ⟨Nat.le_of_ble_eq_true rfl, Nat.le_of_ble_eq_true rfl⟩ hl.1 (Nat.le_of_ble_eq_true rfl) dX3_reads_39 ⟨Nat.le_of_ble_eq_true rfl, Nat.le_of_ble_eq_true rfl⟩) hne hlk hS (fun q h => h.elim Or.inl (fun h => Or.inr (Nat.le_trans (Nat.le_trans hz0 hS.1) h))) (fun q h => h.elim Or.inl (fun h => Or.inr (Nat.le_trans (Nat.le_trans hz0 hS.1) h))) (by rw [rd_r0 (rd_k0 ((rk0 hk5).mp c_31))]) (fun x H1 h_ hz_ hk_ => ⟨⟨u23, V2, (fun _ => 0), hY, many, rent, h_.1, hRa, hVa.step hTb hk_⟩, u23 90 1, h_.2, by rw [rd_r0 (rd_k0 ((rk0 hk5).mp c_31)), hat.2.1]⟩) (by decide) (by decide)
  · refine lv_iconst (v := nI 1) X.1 X.2.1 dX3_reads_34 rfl ?_
    refine lv_goto (tgt := 39) X.1 X.2.1 dX3_reads_35 (by decide) ?_
    refine x_cWv (x_runVW (xZr_w n adK adV fm us sb) X hN ⟨hP, Nat.le_refl _⟩ (hZs.at hS hnz) (As := [.int (rb_i true)]) (rest := []) (MetT.metb (x_X3_wants l dC dI dA n u23 V V2 im ab be adK adV fm us sb H.size true) rfl xQv_ret) xkv_X3_61 (x_recv (ci := 3) X.2.2.2.2.2 hP (j := 90) (by decide) (xe_x90 ..) rfl) rfl rfl ⟨Nat.le_of_ble_eq_true rfl, Nat.le_of_ble_eq_true rfl⟩ hl.1 (Nat.le_of_ble_eq_true rfl) dX3_reads_39 ⟨Nat.le_of_ble_eq_true rfl, Nat.le_of_ble_eq_true rfl⟩) hS (fun q h => h.elim Or.inl (fun h => Or.inr (Nat.le_trans (Nat.le_trans hz0 hS.1) h))) (fun q h => h.elim Or.inl (fun h => Or.inr (Nat.le_trans (Nat.le_trans hz0 hS.1) h))) (fun _ H locs _ hP1 hz1 hk1 hS => ?_)
    have hP := hP1
    have hVa := hVa.step hTb hk1
    refine lv_aload_n X.1 X.2.1 dX3_reads_42 rfl (lv_at hl 1 rfl) ?_
    refine xb_get (C := RX3) (T := TX3) (v := .int (u23 90 2)) X in_X3 (ci := 3) rfl hP (j := 90) (by decide) (xe_x90 ..) 2 (by decide) q197 rfl rfl dX3_reads_43 ?_
    refine rn_co (y := nI (rk (tkK tx ty 0))) hat.2.2.1 ?_
    refine rn_if_eq (tgt := 80) X.1 X.2.1 (by omega) dX3_reads_46 (by decide) (fun c_46 => ?_) (fun c_46 => ?_)
    · exact absurd c_46 c_31
    · refine lv_aload_n X.1 X.2.1 dX3_reads_49 rfl (lv_at hl 1 rfl) ?_
      refine x_okC (tkW tx ty 0 (lnW 0) (chW 0)) (fun ok50 => ?_) (fun ok50 => ?_)
      · exact x_prop (x_runVT (xZr_w n adK adV fm us sb) X hN ⟨hP, Nat.le_refl _⟩ (hZs.at hS hnz) (As := []) (rest := []) (x_X3_item_0 l dC dI dA n u23 V V2 im ab be adK adV fm us sb H.size ty ht ht6 tx hT 0 hp hat hbg (Nat.le_trans hnz (Nat.le_trans hz0 hS.1))) ok50 xkv_X3_81 (x_recv (ci := 3) X.2.2.2.2.2 hP (j := 90) (by decide) (xe_x90 ..) rfl) rfl rfl ⟨Nat.le_of_ble_eq_true rfl, Nat.le_of_ble_eq_true rfl⟩ hl.1 (Nat.le_of_ble_eq_true rfl) dX3_reads_50 ⟨Nat.le_of_ble_eq_true rfl, Nat.le_of_ble_eq_true rfl⟩) hne hlk hS (fun q h => h.elim Or.inl (fun h => Or.inr (Nat.le_trans (Nat.le_trans hz0 hS.1) h))) (fun q h => h.elim Or.inl (fun h => Or.inr (Nat.le_trans (Nat.le_trans hz0 hS.1) h))) (by rw [rd_r0 ok50]) (fun x H1 h_ hz_ hk_ => ⟨⟨u23, V2, (fun _ => 0), hY, many, rent, h_.1, hRa, hVa.step hTb hk_⟩, u23 90 1, h_.2, by rw [rd_r0 ok50, hat.2.1]⟩) (by decide) (by decide)
      refine x_cWv (x_runVW (xZr_w n adK adV fm us sb) X hN ⟨hP, Nat.le_refl _⟩ (hZs.at hS hnz) (As := []) (rest := []) (MetT.metb (x_X3_item_0 l dC dI dA n u23 V V2 im ab be adK adV fm us sb H.size ty ht ht6 tx hT 0 hp hat hbg (Nat.le_trans hnz (Nat.le_trans hz0 hS.1))) ok50 xQv_ret) xkv_X3_81 (x_recv (ci := 3) X.2.2.2.2.2 hP (j := 90) (by decide) (xe_x90 ..) rfl) rfl rfl ⟨Nat.le_of_ble_eq_true rfl, Nat.le_of_ble_eq_true rfl⟩ hl.1 (Nat.le_of_ble_eq_true rfl) dX3_reads_50 ⟨Nat.le_of_ble_eq_true rfl, Nat.le_of_ble_eq_true rfl⟩) hS (fun q h => h.elim Or.inl (fun h => Or.inr (Nat.le_trans (Nat.le_trans hz0 hS.1) h))) (fun q h => h.elim Or.inl (fun h => Or.inr (Nat.le_trans (Nat.le_trans hz0 hS.1) h))) (fun u50 H locs hu50 hP1 hz1 hk1 hS => ?_)
      have hP := hP1
      have hVa := hVa.step hTb hk1
      have hY := hY.fr hu50.1
      have hRa := hRa.cg (S' := fun i => u50 (44 + i)) (fun i hi => hu50.1 (44 + i) (by omega)) (fun _ _ => rfl)
      have hat := hu50.2.2
      have ht := (congrFun (hu50.1 0 (by decide)) 0).trans ht
      have hT := fun k_ h_ => (congrFun (hu50.1 88 (by decide)) k_).trans (hT k_ h_)
      have hbg : u50 90 4 = nI 1 := hu50.2.1
      have hk5 := tkK_b (T := tx) (tl := ty) (p := tkN tx ty 0)
      have hrk := rk_b hk5
      have hp := tkN_b (T := tx) hp
      refine lv_aload_n X.1 X.2.1 dX3_reads_53 rfl (lv_at hl 1 rfl) ?_
      refine lv_aload_n X.1 X.2.1 dX3_reads_54 rfl (lv_at hl 1 rfl) ?_
      refine xb_get (C := RX3) (T := TX3) (v := .int (u50 90 2)) X in_X3 (ci := 3) rfl hP (j := 90) (by decide) (xe_x90 ..) 2 (by decide) q197 rfl rfl dX3_reads_55 ?_
      refine rn_co (y := nI (rk (tkK tx ty (tkN tx ty 0)))) hat.2.2.1 ?_
      refine lv_iconst (v := nI 3) X.1 X.2.1 dX3_reads_58 rfl ?_
      refine rn_icmp_ne (tgt := 66) X.1 X.2.1 (by omega) (by omega) dX3_reads_59 (by decide) (fun c_59 => ?_) (fun c_59 => ?_)
      · refine lv_iconst (v := nI 0) X.1 X.2.1 dX3_reads_66 rfl ?_
        skip
        exact x_prop (x_runVT (xZr_w n adK adV fm us sb) X hN ⟨hP, Nat.le_refl _⟩ (hZs.at hS hnz) (As := [.int (rb_i false)]) (rest := []) (x_X3_wants l dC dI dA n u50 V V2 im ab be adK adV fm us sb H.size false) rfl xkv_X3_61 (x_recv (ci := 3) X.2.2.2.2.2 hP (j := 90) (by decide) (xe_x90 ..) rfl) rfl rfl ⟨Nat.le_of_ble_eq_true rfl, Nat.le_of_ble_eq_true rfl⟩ hl.1 (Nat.le_of_ble_eq_true rfl) dX3_reads_67 ⟨Nat.le_of_ble_eq_true rfl, Nat.le_of_ble_eq_true rfl⟩) hne hlk hS (fun q h => h.elim Or.inl (fun h => Or.inr (Nat.le_trans (Nat.le_trans hz0 hS.1) h))) (fun q h => h.elim Or.inl (fun h => Or.inr (Nat.le_trans (Nat.le_trans hz0 hS.1) h))) (by rw [rd_r1 ok50 (fun z_ => c_59 ((rk3 hk5).mpr z_))]) (fun x H1 h_ hz_ hk_ => ⟨⟨u50, V2, (fun _ => 0), hY, many, rent, h_.1, hRa, hVa.step hTb hk_⟩, u50 90 1, h_.2, by rw [rd_r1 ok50 (fun z_ => c_59 ((rk3 hk5).mpr z_)), hat.2.1]⟩) (by decide) (by decide)
      · refine lv_iconst (v := nI 1) X.1 X.2.1 dX3_reads_62 rfl ?_
        refine lv_goto (tgt := 67) X.1 X.2.1 dX3_reads_63 (by decide) ?_
        refine x_cWv (x_runVW (xZr_w n adK adV fm us sb) X hN ⟨hP, Nat.le_refl _⟩ (hZs.at hS hnz) (As := [.int (rb_i true)]) (rest := []) (MetT.metb (x_X3_wants l dC dI dA n u50 V V2 im ab be adK adV fm us sb H.size true) rfl xQv_ret) xkv_X3_61 (x_recv (ci := 3) X.2.2.2.2.2 hP (j := 90) (by decide) (xe_x90 ..) rfl) rfl rfl ⟨Nat.le_of_ble_eq_true rfl, Nat.le_of_ble_eq_true rfl⟩ hl.1 (Nat.le_of_ble_eq_true rfl) dX3_reads_67 ⟨Nat.le_of_ble_eq_true rfl, Nat.le_of_ble_eq_true rfl⟩) hS (fun q h => h.elim Or.inl (fun h => Or.inr (Nat.le_trans (Nat.le_trans hz0 hS.1) h))) (fun q h => h.elim Or.inl (fun h => Or.inr (Nat.le_trans (Nat.le_trans hz0 hS.1) h))) (fun _ H locs _ hP1 hz1 hk1 hS => ?_)
        have hP := hP1
        have hVa := hVa.step hTb hk1
        refine lv_aload_n X.1 X.2.1 dX3_reads_70 rfl (lv_at hl 1 rfl) ?_
        refine x_cWv (x_runV X hN hP (As := []) (rest := []) (x_X3_scans l dC dI dA n u50 V V2 im ab be ty ht ht6 tx hT (tkN tx ty (tkN tx ty 0)) hat.1 (tkN_b hp)) xkv_X3_65 (x_recv (ci := 3) X.2.2.2.2.2 hP (j := 90) (by decide) (xe_x90 ..) rfl) rfl rfl ⟨Nat.le_of_ble_eq_true rfl, Nat.le_of_ble_eq_true rfl⟩ hl.1 (Nat.le_of_ble_eq_true rfl) dX3_reads_71 (by constructor <;> (dsimp only; omega))) hS (fun _ h => Or.inl h) (fun _ h => Or.inl h) (fun u71 H locs hu71 hP1 hz1 hk1 hS => ?_)
        have hP := hP1
        have ht := (congrFun (hu71.1.1 0 (by decide)) 0).trans ht
        have hT := fun k_ h_ => (congrFun (hu71.1.1 88 (by decide)) k_).trans (hT k_ h_)
        have hVa := hVa.step96 hTb hk1
        have hY := hY.fr hu71.1.1
        have hRa := hRa.cg (S' := fun i => u71 (44 + i)) (fun i hi => hu71.1.1 (44 + i) (by omega)) (fun _ _ => rfl)
        have hat := hu71.2
        have hp := tkN_b (T := tx) hp
        have hbg := (hu71.1.2 4 (by omega)).trans hbg
        refine rn_iinc (lv' := [(1, .int (nI (0 + 1))), (0, .ref (n + 90))]) X.1 X.2.1 dX3_reads_74 hl (k := 0) rfl (by decide) rfl (fun ls hl => ?_)
        refine lv_goto (tgt := 42) X.1 X.2.1 dX3_reads_77 (by decide) ?_
        refine W.pad (cells2 := 8 * (0 + 1) + 3) (slots2 := 67 * (0 + 1) + 21) (by decide) (by decide) ?_
        exact K42 _ (0 + 1) (tkN tx ty (tkN tx ty 0)) (fun _ => 0) many rent (ty - (tkN tx ty (tkN tx ty 0)) + 1) u71 V2 _ _ rfl hp (by have h1_ := tkW_lt (T := tx) (Nat.zero_le ty) ok50; have h2_ := rdAt.le (T := tx) (tkN_b (T := tx) (Nat.zero_le ty)); omega) (by omega) (rd_r2 ok50 ((rk3 hk5).mp c_59)) hY hbg hat hRa hP hS hVa ls (lv_sub hl [1, 0] rfl)
