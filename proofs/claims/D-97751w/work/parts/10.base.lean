/-! BASE: numbers as Nats, booleans, the classes; the Model's world and its rows -/
set_option maxRecDepth 100000
/-- a boolean as the machine has it -/
def rb_i (b : Bool) : Int32 := if b = true then 1 else 0
theorem rb_t : rb_i true = 1 := rfl
theorem rb_f : rb_i false = 0 := rfl
theorem rb_0 {b : Bool} (h : rb_i b = 0) : b = false := by
  cases b with
  | false => rfl
  | true => exact absurd h (by decide)
theorem rb_1 {b : Bool} (h : ¬ rb_i b = 0) : b = true := by
  cases b with
  | false => exact absurd rfl h
  | true => rfl
abbrev rvCl : List vw_C := [(RX0, TX0, 14), (RX1, TX1, 11), (RX2, TX2, 6), (RX3, TX3, 6), (RX4, TX4, 6), (RX5, TX5, 27), (RX6, TX6, 3), (RX7, TX7, 3), (RX8, TX8, 3), (RX9, TX9, 3), (RX10, TX10, 3), (RX11, TX11, 3), (RX12, TX12, 7)]
abbrev rvTy (dA : Nat → ClassId) : List (ClassId × FieldType) := [(dA 0, .int), (dA 1, .boolean), (dA 2, .byte), (dA 3, .object RX6), (dA 4, .object RX2), (dA 5, .object RX1)]
/-- the classes and array classes as the tables have them -/
def rvK (dC : Nat → ClassId) (dI : Nat → Nat → Nat) (dA : Nat → ClassId) (U : State) : Prop := va_K (dC, dI) rvCl (rvTy dA) U
theorem rvK.moved {dC : Nat → ClassId} {dI : Nat → Nat → Nat} {dA : Nat → ClassId} {u U : State} (hvm : u.vm.Alike U.vm) (h : rvK dC dI dA u) : rvK dC dI dA U := va_K.moved hvm h
section RN
variable {p : Program} {l : Launch} {e : Env} {R : Room} {s : State} {m : MethodId} {args : Array Value} {below : List Frame} {meth : Method} {c : Code} {H : Heap} {locs : List Loc} {cells slots : Nat} {Q : State → Prop}
variable {cc : ByteArray} {pc : Nat} {ls : Array Slot} {rest : List Value}
theorem rn_iadd (hx : p.tables.exec = Jvm.exec) (hb : c.code = cc) {a b : Nat} (hdg : decode cc pc = .ok (.iadd, 1))
    (k : W p l e R s m args below meth c H locs cells slots Q (F0 m (pc + 1) ls (.int (nI (a + b)) :: rest))) : W p l e R s m args below meth c H locs cells slots Q (F0 m pc ls (.int (nI b) :: .int (nI a) :: rest)) :=
  lv_iadd hx hb hdg (by rw [nI_add]; exact k)
theorem rn_imul (hx : p.tables.exec = Jvm.exec) (hb : c.code = cc) {a b : Nat} (hdg : decode cc pc = .ok (.imul, 1))
    (k : W p l e R s m args below meth c H locs cells slots Q (F0 m (pc + 1) ls (.int (nI (a * b)) :: rest))) : W p l e R s m args below meth c H locs cells slots Q (F0 m pc ls (.int (nI b) :: .int (nI a) :: rest)) :=
  lv_imul hx hb hdg (by rw [pk_mul]; exact k)
theorem rn_isub (hx : p.tables.exec = Jvm.exec) (hb : c.code = cc) {a b : Nat} (h : b ≤ a) (hdg : decode cc pc = .ok (.isub, 1))
    (k : W p l e R s m args below meth c H locs cells slots Q (F0 m (pc + 1) ls (.int (nI (a - b)) :: rest))) : W p l e R s m args below meth c H locs cells slots Q (F0 m pc ls (.int (nI b) :: .int (nI a) :: rest)) :=
  lv_isub hx hb hdg (by rw [pk_sub h]; exact k)
theorem rn_idiv (hx : p.tables.exec = Jvm.exec) (hb : c.code = cc) {a d : Nat} (ha : a < 2 ^ 31) (h0 : 0 < d) (hd : d < 2 ^ 31) (hdg : decode cc pc = .ok (.idiv, 1))
    (k : W p l e R s m args below meth c H locs cells slots Q (F0 m (pc + 1) ls (.int (nI (a / d)) :: rest))) : W p l e R s m args below meth c H locs cells slots Q (F0 m pc ls (.int (nI d) :: .int (nI a) :: rest)) :=
  lv_idiv hx hb hdg (nI_ne0 h0 hd) (by rw [pk_div ha h0 hd]; exact k)
theorem rn_irem (hx : p.tables.exec = Jvm.exec) (hb : c.code = cc) {a d : Nat} (ha : a < 2 ^ 31) (h0 : 0 < d) (hd : d < 2 ^ 31) (hdg : decode cc pc = .ok (.irem, 1))
    (k : W p l e R s m args below meth c H locs cells slots Q (F0 m (pc + 1) ls (.int (nI (a % d)) :: rest))) : W p l e R s m args below meth c H locs cells slots Q (F0 m pc ls (.int (nI d) :: .int (nI a) :: rest)) :=
  lv_irem hx hb hdg (nI_ne0 h0 hd) (by rw [pk_rem ha h0 hd]; exact k)
/-- the top of the stack by an equal number -/
theorem rn_co {x y : Int32} (h : x = y) (k : W p l e R s m args below meth c H locs cells slots Q (F0 m pc ls (.int y :: rest))) : W p l e R s m args below meth c H locs cells slots Q (F0 m pc ls (.int x :: rest)) := by
  rw [h]; exact k
theorem rn_co2 {x y : Int32} {v : Value} (h : x = y) (k : W p l e R s m args below meth c H locs cells slots Q (F0 m pc ls (v :: .int y :: rest))) : W p l e R s m args below meth c H locs cells slots Q (F0 m pc ls (v :: .int x :: rest)) := by
  rw [h]; exact k
theorem rn_col {x y : Int64} (h : x = y) (k : W p l e R s m args below meth c H locs cells slots Q (F0 m pc ls (.long y :: rest))) : W p l e R s m args below meth c H locs cells slots Q (F0 m pc ls (.long x :: rest)) := by
  rw [h]; exact k
theorem rn_zt (hx : p.tables.exec = Jvm.exec) (hb : c.code = cc) {x : Bool} {off : Int} {tgt : Nat} (hdg : decode cc pc = .ok (.ifCond .eq off, 3)) (ht : (pc : Int) + off = (tgt : Int))
    (kt : x = false → W p l e R s m args below meth c H locs cells slots Q (F0 m tgt ls rest)) (kf : x = true → W p l e R s m args below meth c H locs cells slots Q (F0 m (pc + 3) ls rest)) : W p l e R s m args below meth c H locs cells slots Q (F0 m pc ls (.int (rb_i x) :: rest)) :=
  lv_if_eq hx hb hdg ht (fun h => kt (rb_0 h)) (fun h => kf (rb_1 h))
theorem rn_zf (hx : p.tables.exec = Jvm.exec) (hb : c.code = cc) {x : Bool} {off : Int} {tgt : Nat} (hdg : decode cc pc = .ok (.ifCond .ne off, 3)) (ht : (pc : Int) + off = (tgt : Int))
    (kt : x = true → W p l e R s m args below meth c H locs cells slots Q (F0 m tgt ls rest)) (kf : x = false → W p l e R s m args below meth c H locs cells slots Q (F0 m (pc + 3) ls rest)) : W p l e R s m args below meth c H locs cells slots Q (F0 m pc ls (.int (rb_i x) :: rest)) :=
  lv_if_ne hx hb hdg ht (fun h => kt (rb_1 h)) (fun h => kf (rb_0 h))
theorem rn_iinc (hx : p.tables.exec = Jvm.exec) (hb : c.code = cc) {i nL k a d : Nat} {lv lv' : List (Nat × Value)} (hdg : decode cc pc = .ok (.iinc i d, 3)) (h : lv_has ls nL lv) (hk : lv[k]? = some (i, .int (nI a))) (hn : i < nL) (hl : (i, Value.int (nI (a + d))) :: lv.filter (fun q => !(q.1 == i) && !(q.1 + 1 == i && q.2.category == 2)) = lv')
    (kk : ∀ ls' : Array Slot, lv_has ls' nL lv' → W p l e R s m args below meth c H locs cells slots Q (F0 m (pc + 3) ls' rest)) : W p l e R s m args below meth c H locs cells slots Q (F0 m pc ls rest) :=
  lv_iinc hx hb hdg h hk (show nI a + Int32.ofInt (d : Int) = nI (a + d) from by rw [← nI_add]; rfl) hn hl kk
theorem rn_iincm (hx : p.tables.exec = Jvm.exec) (hb : c.code = cc) {i nL k a : Nat} {lv lv' : List (Nat × Value)} (hdg : decode cc pc = .ok (.iinc i (-1), 3)) (h : lv_has ls nL lv) (hk : lv[k]? = some (i, .int (nI (a + 1)))) (hn : i < nL) (hl : (i, Value.int (nI a)) :: lv.filter (fun q => !(q.1 == i) && !(q.1 + 1 == i && q.2.category == 2)) = lv')
    (kk : ∀ ls' : Array Slot, lv_has ls' nL lv' → W p l e R s m args below meth c H locs cells slots Q (F0 m (pc + 3) ls' rest)) : W p l e R s m args below meth c H locs cells slots Q (F0 m pc ls rest) :=
  lv_iinc hx hb hdg h hk (show nI (a + 1) + Int32.ofInt (-1) = nI a from pk_m1 a) hn hl kk

theorem rn_icmp_lt (hx : p.tables.exec = Jvm.exec) (hb : c.code = cc) {a b : Nat} {off : Int} {tgt : Nat} (ha : a < 2 ^ 31) (hb2 : b < 2 ^ 31) (hdg : decode cc pc = .ok (.if_icmp .lt off, 3)) (ht : (pc : Int) + off = (tgt : Int))
    (kt : a < b → W p l e R s m args below meth c H locs cells slots Q (F0 m tgt ls rest)) (kf : b ≤ a → W p l e R s m args below meth c H locs cells slots Q (F0 m (pc + 3) ls rest)) : W p l e R s m args below meth c H locs cells slots Q (F0 m pc ls (.int (nI b) :: .int (nI a) :: rest)) :=
  lv_icmp_lt hx hb hdg ht (fun h => kt ((nI_ltI ha hb2).mp h)) (fun h => kf (Nat.le_of_not_lt (fun z => h ((nI_ltI ha hb2).mpr z))))

theorem rn_icmp_ge (hx : p.tables.exec = Jvm.exec) (hb : c.code = cc) {a b : Nat} {off : Int} {tgt : Nat} (ha : a < 2 ^ 31) (hb2 : b < 2 ^ 31) (hdg : decode cc pc = .ok (.if_icmp .ge off, 3)) (ht : (pc : Int) + off = (tgt : Int))
    (kt : b ≤ a → W p l e R s m args below meth c H locs cells slots Q (F0 m tgt ls rest)) (kf : a < b → W p l e R s m args below meth c H locs cells slots Q (F0 m (pc + 3) ls rest)) : W p l e R s m args below meth c H locs cells slots Q (F0 m pc ls (.int (nI b) :: .int (nI a) :: rest)) :=
  lv_icmp_ge hx hb hdg ht (fun h => kt ((nI_leI hb2 ha).mp h)) (fun h => kf (Nat.lt_of_not_le (fun z => h ((nI_leI hb2 ha).mpr z))))

theorem rn_icmp_gt (hx : p.tables.exec = Jvm.exec) (hb : c.code = cc) {a b : Nat} {off : Int} {tgt : Nat} (ha : a < 2 ^ 31) (hb2 : b < 2 ^ 31) (hdg : decode cc pc = .ok (.if_icmp .gt off, 3)) (ht : (pc : Int) + off = (tgt : Int))
    (kt : b < a → W p l e R s m args below meth c H locs cells slots Q (F0 m tgt ls rest)) (kf : a ≤ b → W p l e R s m args below meth c H locs cells slots Q (F0 m (pc + 3) ls rest)) : W p l e R s m args below meth c H locs cells slots Q (F0 m pc ls (.int (nI b) :: .int (nI a) :: rest)) :=
  lv_icmp_gt hx hb hdg ht (fun h => kt ((nI_ltI hb2 ha).mp h)) (fun h => kf (Nat.le_of_not_lt (fun z => h ((nI_ltI hb2 ha).mpr z))))

theorem rn_icmp_le (hx : p.tables.exec = Jvm.exec) (hb : c.code = cc) {a b : Nat} {off : Int} {tgt : Nat} (ha : a < 2 ^ 31) (hb2 : b < 2 ^ 31) (hdg : decode cc pc = .ok (.if_icmp .le off, 3)) (ht : (pc : Int) + off = (tgt : Int))
    (kt : a ≤ b → W p l e R s m args below meth c H locs cells slots Q (F0 m tgt ls rest)) (kf : b < a → W p l e R s m args below meth c H locs cells slots Q (F0 m (pc + 3) ls rest)) : W p l e R s m args below meth c H locs cells slots Q (F0 m pc ls (.int (nI b) :: .int (nI a) :: rest)) :=
  lv_icmp_le hx hb hdg ht (fun h => kt ((nI_leI ha hb2).mp h)) (fun h => kf (Nat.lt_of_not_le (fun z => h ((nI_leI ha hb2).mpr z))))

theorem rn_icmp_eq (hx : p.tables.exec = Jvm.exec) (hb : c.code = cc) {a b : Nat} {off : Int} {tgt : Nat} (ha : a < 2 ^ 31) (hb2 : b < 2 ^ 31) (hdg : decode cc pc = .ok (.if_icmp .eq off, 3)) (ht : (pc : Int) + off = (tgt : Int))
    (kt : a = b → W p l e R s m args below meth c H locs cells slots Q (F0 m tgt ls rest)) (kf : a ≠ b → W p l e R s m args below meth c H locs cells slots Q (F0 m (pc + 3) ls rest)) : W p l e R s m args below meth c H locs cells slots Q (F0 m pc ls (.int (nI b) :: .int (nI a) :: rest)) :=
  lv_icmp_eq hx hb hdg ht (fun h => kt ((nI_eq ha hb2).mp h)) (fun h => kf (fun z => h ((nI_eq ha hb2).mpr z)))

theorem rn_icmp_ne (hx : p.tables.exec = Jvm.exec) (hb : c.code = cc) {a b : Nat} {off : Int} {tgt : Nat} (ha : a < 2 ^ 31) (hb2 : b < 2 ^ 31) (hdg : decode cc pc = .ok (.if_icmp .ne off, 3)) (ht : (pc : Int) + off = (tgt : Int))
    (kt : a ≠ b → W p l e R s m args below meth c H locs cells slots Q (F0 m tgt ls rest)) (kf : a = b → W p l e R s m args below meth c H locs cells slots Q (F0 m (pc + 3) ls rest)) : W p l e R s m args below meth c H locs cells slots Q (F0 m pc ls (.int (nI b) :: .int (nI a) :: rest)) :=
  lv_icmp_ne hx hb hdg ht (fun h => kt (fun z => h ((nI_eq ha hb2).mpr z))) (fun h => kf ((nI_eq ha hb2).mp h))

theorem rn_if_eq (hx : p.tables.exec = Jvm.exec) (hb : c.code = cc) {a : Nat} {off : Int} {tgt : Nat} (ha : a < 2 ^ 31) (hdg : decode cc pc = .ok (.ifCond .eq off, 3)) (ht : (pc : Int) + off = (tgt : Int))
    (kt : a = 0 → W p l e R s m args below meth c H locs cells slots Q (F0 m tgt ls rest)) (kf : a ≠ 0 → W p l e R s m args below meth c H locs cells slots Q (F0 m (pc + 3) ls rest)) : W p l e R s m args below meth c H locs cells slots Q (F0 m pc ls (.int (nI a) :: rest)) :=
  lv_if_eq hx hb hdg ht (fun h => kt ((nI_eq ha (by decide)).mp (h.trans nI_0.symm))) (fun h => kf (fun z => h (by rw [z]; exact nI_0)))

theorem rn_if_ne (hx : p.tables.exec = Jvm.exec) (hb : c.code = cc) {a : Nat} {off : Int} {tgt : Nat} (ha : a < 2 ^ 31) (hdg : decode cc pc = .ok (.ifCond .ne off, 3)) (ht : (pc : Int) + off = (tgt : Int))
    (kt : a ≠ 0 → W p l e R s m args below meth c H locs cells slots Q (F0 m tgt ls rest)) (kf : a = 0 → W p l e R s m args below meth c H locs cells slots Q (F0 m (pc + 3) ls rest)) : W p l e R s m args below meth c H locs cells slots Q (F0 m pc ls (.int (nI a) :: rest)) :=
  lv_if_ne hx hb hdg ht (fun h => kt (fun z => h (by rw [z]; exact nI_0))) (fun h => kf ((nI_eq ha (by decide)).mp (h.trans nI_0.symm)))

theorem rn_if_gt (hx : p.tables.exec = Jvm.exec) (hb : c.code = cc) {a : Nat} {off : Int} {tgt : Nat} (ha : a < 2 ^ 31) (hdg : decode cc pc = .ok (.ifCond .gt off, 3)) (ht : (pc : Int) + off = (tgt : Int))
    (kt : 0 < a → W p l e R s m args below meth c H locs cells slots Q (F0 m tgt ls rest)) (kf : a = 0 → W p l e R s m args below meth c H locs cells slots Q (F0 m (pc + 3) ls rest)) : W p l e R s m args below meth c H locs cells slots Q (F0 m pc ls (.int (nI a) :: rest)) :=
  lv_if_gt hx hb hdg ht (fun h => kt ((nI_ltI (by decide) ha).mp (by rw [nI_0]; exact h))) (fun h => kf (Nat.eq_zero_of_not_pos (fun z => h (by rw [← nI_0]; exact (nI_ltI (by decide) ha).mpr z))))

theorem rn_if_le (hx : p.tables.exec = Jvm.exec) (hb : c.code = cc) {a : Nat} {off : Int} {tgt : Nat} (ha : a < 2 ^ 31) (hdg : decode cc pc = .ok (.ifCond .le off, 3)) (ht : (pc : Int) + off = (tgt : Int))
    (kt : a = 0 → W p l e R s m args below meth c H locs cells slots Q (F0 m tgt ls rest)) (kf : 0 < a → W p l e R s m args below meth c H locs cells slots Q (F0 m (pc + 3) ls rest)) : W p l e R s m args below meth c H locs cells slots Q (F0 m pc ls (.int (nI a) :: rest)) :=
  lv_if_le hx hb hdg ht (fun h => kt (Nat.le_zero.mp ((nI_leI ha (by decide)).mp (by rw [nI_0]; exact h)))) (fun h => kf (Nat.pos_of_ne_zero (fun z => h (by rw [z, nI_0]; decide))))

theorem rn_co3 {x y : Int32} {v u : Value} (h : x = y) (k : W p l e R s m args below meth c H locs cells slots Q (F0 m pc ls (v :: u :: .int y :: rest))) : W p l e R s m args below meth c H locs cells slots Q (F0 m pc ls (v :: u :: .int x :: rest)) := by
  rw [h]; exact k
theorem rn_switch {P : Prop} {x : Int32} {lo : Int} {k : Nat} (h1 : ∀ j : Nat, j < k → x.toInt = lo + j → P) (h2 : x.toInt < lo ∨ lo + k - 1 < x.toInt → P) : P := by
  by_cases h : x.toInt < lo ∨ lo + k - 1 < x.toInt
  · exact h2 h
  · exact h1 (x.toInt - lo).toNat (by omega) (by omega)
theorem rn_swe {x v : Int32} {lo : Int} {j : Nat} (hv : v.toInt = lo + j) (h : x.toInt = lo + j) : x = v := Int32.toInt_inj.mp (h.trans hv.symm)
theorem rn_lcmp_lt (hx : p.tables.exec = Jvm.exec) (hb : c.code = cc) {x y : Int64} {off : Int} {tgt : Nat} (hd1 : decode cc pc = .ok (.lcmp, 1)) (hdg : decode cc (pc + 1) = .ok (.ifCond .lt off, 3)) (ht : ((pc + 1 : Nat) : Int) + off = (tgt : Int))
    (kt : x < y → W p l e R s m args below meth c H locs cells slots Q (F0 m tgt ls rest)) (kf : y ≤ x → W p l e R s m args below meth c H locs cells slots Q (F0 m (pc + 1 + 3) ls rest)) : W p l e R s m args below meth c H locs cells slots Q (F0 m pc ls (.long y :: .long x :: rest)) :=
  W.lcmp hx hb hd1 (lv_if_lt hx hb hdg ht (fun h => kt ((lg_cmp_lt x y).mp h)) (fun h => kf (Int64.not_lt.mp (fun z => h ((lg_cmp_lt x y).mpr z)))))
theorem rn_lcmp_ge (hx : p.tables.exec = Jvm.exec) (hb : c.code = cc) {x y : Int64} {off : Int} {tgt : Nat} (hd1 : decode cc pc = .ok (.lcmp, 1)) (hdg : decode cc (pc + 1) = .ok (.ifCond .ge off, 3)) (ht : ((pc + 1 : Nat) : Int) + off = (tgt : Int))
    (kt : y ≤ x → W p l e R s m args below meth c H locs cells slots Q (F0 m tgt ls rest)) (kf : x < y → W p l e R s m args below meth c H locs cells slots Q (F0 m (pc + 1 + 3) ls rest)) : W p l e R s m args below meth c H locs cells slots Q (F0 m pc ls (.long y :: .long x :: rest)) :=
  W.lcmp hx hb hd1 (lv_if_ge hx hb hdg ht (fun h => kt ((lg_cmp_ge x y).mp h)) (fun h => kf (Int64.not_le.mp (fun z => h ((lg_cmp_ge x y).mpr z)))))
theorem rn_lcmp_gt (hx : p.tables.exec = Jvm.exec) (hb : c.code = cc) {x y : Int64} {off : Int} {tgt : Nat} (hd1 : decode cc pc = .ok (.lcmp, 1)) (hdg : decode cc (pc + 1) = .ok (.ifCond .gt off, 3)) (ht : ((pc + 1 : Nat) : Int) + off = (tgt : Int))
    (kt : y < x → W p l e R s m args below meth c H locs cells slots Q (F0 m tgt ls rest)) (kf : x ≤ y → W p l e R s m args below meth c H locs cells slots Q (F0 m (pc + 1 + 3) ls rest)) : W p l e R s m args below meth c H locs cells slots Q (F0 m pc ls (.long y :: .long x :: rest)) :=
  W.lcmp hx hb hd1 (lv_if_gt hx hb hdg ht (fun h => kt ((lg_cmp_gt x y).mp h)) (fun h => kf (Int64.not_lt.mp (fun z => h ((lg_cmp_gt x y).mpr z)))))
theorem rn_lcmp_eq (hx : p.tables.exec = Jvm.exec) (hb : c.code = cc) {x y : Int64} {off : Int} {tgt : Nat} (hd1 : decode cc pc = .ok (.lcmp, 1)) (hdg : decode cc (pc + 1) = .ok (.ifCond .eq off, 3)) (ht : ((pc + 1 : Nat) : Int) + off = (tgt : Int))
    (kt : x = y → W p l e R s m args below meth c H locs cells slots Q (F0 m tgt ls rest)) (kf : x ≠ y → W p l e R s m args below meth c H locs cells slots Q (F0 m (pc + 1 + 3) ls rest)) : W p l e R s m args below meth c H locs cells slots Q (F0 m pc ls (.long y :: .long x :: rest)) :=
  W.lcmp hx hb hd1 (lv_if_eq hx hb hdg ht (fun h => kt ((lg_cmp_eq x y).mp h)) (fun h => kf (fun z => h ((lg_cmp_eq x y).mpr z))))
end RN
/-- the Model's numbers: its arrays 0 .. 14 as they are made, 15: its ints -/
abbrev mdT : Type := Nat → Nat → Int32
/-- one number set -/
def mdS (σ : mdT) (a k : Nat) (v : Int32) : mdT := va_up σ a (upd (σ a) k v)
theorem mdS_eq (σ : mdT) (a k : Nat) (v : Int32) : mdS σ a k v a k = v := by simp [mdS, va_up, upd]
theorem mdS_at (σ : mdT) (a k : Nat) (v : Int32) (a' k' : Nat) : mdS σ a k v a' k' = if a' = a ∧ k' = k then v else σ a' k' := by
  unfold mdS va_up upd
  by_cases h : a' = a
  · subst h
    by_cases h2 : k' = k <;> simp [h2]
  · simp [h]
theorem mdS_row (σ : mdT) {a a' : Nat} (k : Nat) (v : Int32) (h : a' ≠ a) : mdS σ a k v a' = σ a' := by simp [mdS, va_up, h]
abbrev mdF (n : Nat) (σ : mdT) (ab be : Int64) : List Value := [.ref (n + 1), .ref (n + 2), .ref (n + 3), .ref (n + 4), .long ab, .long be, .ref (n + 5), .int (σ 15 0), .ref (n + 6), .ref (n + 7), .ref (n + 8), .ref (n + 9), .ref (n + 10), .ref (n + 11), .int (σ 15 1), .int (σ 15 2), .int (σ 15 3), .int (σ 15 4), .ref (n + 12), .ref (n + 13), .int (σ 15 5), .int (σ 15 6), .int (σ 15 7), .int (σ 15 8), .int (σ 15 9), .ref (n + 14), .ref (n + 15)]
def mdW (dA : Nat → ClassId) (n : Nat) (σ : mdT) (ab be : Int64) : va_W := [(n, .inr (5, mdF n σ ab be)), (n + 1, .inl (dA 0, 523, .inl (σ 0))), (n + 2, .inl (dA 0, 1046, .inl (σ 1))), (n + 3, .inl (dA 1, 2, .inl (σ 2))), (n + 4, .inl (dA 0, 3, .inl (σ 3))), (n + 5, .inl (dA 0, 6, .inl (σ 4))), (n + 6, .inl (dA 0, 7, .inl (σ 5))), (n + 7, .inl (dA 0, 7, .inl (σ 6))), (n + 8, .inl (dA 0, 7, .inl (σ 7))), (n + 9, .inl (dA 0, 7, .inl (σ 8))), (n + 10, .inl (dA 0, 7, .inl (σ 9))), (n + 11, .inl (dA 0, 7, .inl (σ 10))), (n + 12, .inl (dA 0, 6, .inl (σ 11))), (n + 13, .inl (dA 0, 150, .inl (σ 12))), (n + 14, .inl (dA 0, 115, .inl (σ 13))), (n + 15, .inl (dA 0, 4, .inl (σ 14)))]
/-- the cells of the Model -/
def mdA (n : Nat) : Nat → Prop := fun q => n ≤ q ∧ q < n + 16
theorem md_addr (dA : Nat → ClassId) (n : Nat) (σ : mdT) (ab be : Int64) (k : Nat) (q : Nat × va_E) (h : (mdW dA n σ ab be)[k]? = some q) : q.1 = n + k ∧ k < 16 := by
  have hk : k < 16 := (List.getElem?_eq_some_iff.mp h).1
  refine ⟨?_, hk⟩
  have e : ((mdW dA n σ ab be).map Prod.fst)[k]? = some q.1 := by rw [List.getElem?_map, h]; rfl
  have e2 : (mdW dA n σ ab be).map Prod.fst = (List.range 16).map (fun i => n + i) := rfl
  rw [e2, List.getElem?_map, List.getElem?_range hk] at e
  exact (Option.some.inj e).symm
theorem md_D (dA : Nat → ClassId) (n : Nat) (σ : mdT) (ab be : Int64) : va_D (mdA n) (mdW dA n σ ab be) := by
  refine ⟨fun i j x y hi hj hxy => ?_, fun k q hk => ?_⟩
  · have h1 := (md_addr dA n σ ab be i x hi).1
    have h2 := (md_addr dA n σ ab be j y hj).1
    omega
  · have h1 := md_addr dA n σ ab be k q hk
    exact ⟨by omega, by omega⟩
/-- what a walk of a Model's method stands on -/
def mdC (dC : Nat → ClassId) (dI : Nat → Nat → Nat) (dA : Nat → ClassId) (p : Program) (s : State) (m : MethodId) (c : Code) (args : Array Value) (cc : ByteArray) (nL : Nat) : Prop :=
  p.tables.exec = Jvm.exec ∧ c.code = cc ∧ c.maxLocals = nL ∧ s.vm.findClass RX5 = some m.cls ∧ (∀ w ∈ lw_all, w.before args s = true) ∧ rvK dC dI dA s
/-- the Model's world in a heap -/
def mdP (dC : Nat → ClassId) (dI : Nat → Nat → Nat) (dA : Nat → ClassId) (n : Nat) (σ : mdT) (ab be : Int64) (H : Heap) : Prop := va_P (dC, dI) rvCl (mdW dA n σ ab be) H
section MD
variable {p : Program} {l : Launch} {e : Env} {R : Room} {s : State} {m : MethodId} {args : Array Value} {below : List Frame} {meth : Method} {c : Code} {H : Heap} {locs : List Loc} {cells slots : Nat} {Q : State → Prop}
variable {cc : ByteArray} {pc nL : Nat} {ls : Array Slot} {rest : List Value} {dC : Nat → ClassId} {dI : Nat → Nat → Nat} {dA : Nat → ClassId} {n : Nat} {σ : mdT} {ab be : Int64} {H0 : Heap}
theorem md_get {index : Nat} (C : mdC dC dI dA p s m c args cc nL) (hP : mdP dC dI dA n σ ab be H) (k : Nat) (hk : k < 27) (hl : Cond.fieldLink RX5 index RX5 (TX5 k).2.1 (TX5 k).2.2.1 ∈ lw_all) (hT : (TX5 k).1 = RX5) {v : Value} (hv : (mdF n σ ab be)[k]? = some v) (hdg : decode cc pc = .ok (.getfield index, 3))
    (kk : W p l e R s m args below meth c H locs cells slots Q (F0 m (pc + 3) ls (v :: rest))) : W p l e R s m args below meth c H locs cells slots Q (F0 m pc ls (.ref n :: rest)) :=
  va_get (own := RX5) (ref := RX5) (C := RX5) (T := TX5) (N := 27) (ci := 5) C.1 C.2.1 C.2.2.2.2.1 in_X5 C.2.2.2.1 C.2.2.2.2.2 hP 0 rfl rfl k hk (C.2.2.2.2.1 _ hl) (fun x h => by rw [hT] at h; exact h) hv hdg kk
theorem md_put {index : Nat} (C : mdC dC dI dA p s m c args cc nL) (hP : mdP dC dI dA n σ ab be H) (hS : va_S (mdA n) H0 H locs) (k : Nat) (hk : k < 27) (hl : Cond.fieldLink RX5 index RX5 (TX5 k).2.1 (TX5 k).2.2.1 ∈ lw_all) (hT : (TX5 k).1 = RX5) (hF : (TX5 k).2.2.2 = false) {ty : FieldType} {v : Value} (hd : parseFieldDescriptor (TX5 k).2.2.1 = some ty) (hn : narrow ty v = v) (hfit : fits ty v = true)
    {σ2 : mdT} {ab2 be2 : Int64} (he : (mdW dA n σ ab be).set 0 (n, .inr (5, (mdF n σ ab be).set k v)) = mdW dA n σ2 ab2 be2) (hdg : decode cc pc = .ok (.putfield index, 3))
    (kk : ∀ (H1 : Heap) (locs1 : List Loc), mdP dC dI dA n σ2 ab2 be2 H1 → va_S (mdA n) H0 H1 locs1 → W p l e R s m args below meth c H1 locs1 cells slots Q (F0 m (pc + 3) ls rest)) : W p l e R s m args below meth c H locs cells slots Q (F0 m pc ls (v :: .ref n :: rest)) :=
  va_put (own := RX5) (ref := RX5) (C := RX5) (T := TX5) (N := 27) (ci := 5) C.1 C.2.1 C.2.2.2.2.1 in_X5 tyX5 tyX5_ok nmX5 C.2.2.2.1 C.2.2.2.2.2 hP (md_D dA n σ ab be) hS 0 rfl rfl k hk (C.2.2.2.2.1 _ hl) (fun x h => by rw [hT] at h; exact h) hF hd hn hfit (show k < (mdF n σ ab be).length from hk) hdg (fun H1 locs1 h1 _ h3 => kk H1 locs1 (by unfold mdP; rw [← he]; exact h1) h3)
theorem md_ld (C : mdC dC dI dA p s m c args cc nL) (hP : mdP dC dI dA n σ ab be H) {a : Nat} (q N : Nat) (ha : (mdW dA n σ ab be)[q]? = some (n + q, .inl (dA 0, N, .inl (σ a)))) {k : Nat} (hk : k < N) (hN : N < 2 ^ 31) (hdg : decode cc pc = .ok (.iaload, 1))
    (kk : W p l e R s m args below meth c H locs cells slots Q (F0 m (pc + 1) ls (.int (σ a k) :: rest))) : W p l e R s m args below meth c H locs cells slots Q (F0 m pc ls (.int (nI k) :: .ref (n + q) :: rest)) :=
  va_iald C.1 C.2.1 C.2.2.2.2.2 hP q 0 ha rfl (vp_in_nI hk hN) hdg (by rw [nI_clamp (by omega)]; exact kk)
theorem md_st (C : mdC dC dI dA p s m c args cc nL) (hP : mdP dC dI dA n σ ab be H) (hS : va_S (mdA n) H0 H locs) {a : Nat} (q N : Nat) (ha : (mdW dA n σ ab be)[q]? = some (n + q, .inl (dA 0, N, .inl (σ a)))) {k : Nat} {v : Int32} (hk : k < N) (hN : N < 2 ^ 31) (he : (mdW dA n σ ab be).set q (n + q, .inl (dA 0, N, .inl (upd (σ a) k v))) = mdW dA n (mdS σ a k v) ab be) (hdg : decode cc pc = .ok (.iastore, 1))
    (kk : ∀ (H1 : Heap) (locs1 : List Loc), mdP dC dI dA n (mdS σ a k v) ab be H1 → va_S (mdA n) H0 H1 locs1 → W p l e R s m args below meth c H1 locs1 cells slots Q (F0 m (pc + 1) ls rest)) : W p l e R s m args below meth c H locs cells slots Q (F0 m pc ls (.int v :: .int (nI k) :: .ref (n + q) :: rest)) :=
  va_iast C.1 C.2.1 C.2.2.2.2.2 hP (md_D dA n σ ab be) hS q 0 ha rfl (vp_in_nI hk hN) hdg (fun H1 locs1 h1 _ h3 => kk H1 locs1 (by unfold mdP; rw [nI_clamp (by omega)] at h1; rw [← he]; exact h1) h3)

theorem md_g0 (C : mdC dC dI dA p s m c args cc nL) (hP : mdP dC dI dA n σ ab be H) (hdg : decode cc pc = .ok (.getfield 7, 3)) (kk : W p l e R s m args below meth c H locs cells slots Q (F0 m (pc + 3) ls (.ref (n + 1) :: rest))) : W p l e R s m args below meth c H locs cells slots Q (F0 m pc ls (.ref n :: rest)) :=
  md_get C hP 0 (by decide) q897 rfl rfl hdg kk
theorem md_g1 (C : mdC dC dI dA p s m c args cc nL) (hP : mdP dC dI dA n σ ab be H) (hdg : decode cc pc = .ok (.getfield 13, 3)) (kk : W p l e R s m args below meth c H locs cells slots Q (F0 m (pc + 3) ls (.ref (n + 2) :: rest))) : W p l e R s m args below meth c H locs cells slots Q (F0 m pc ls (.ref n :: rest)) :=
  md_get C hP 1 (by decide) q898 rfl rfl hdg kk
theorem md_g2 (C : mdC dC dI dA p s m c args cc nL) (hP : mdP dC dI dA n σ ab be H) (hdg : decode cc pc = .ok (.getfield 16, 3)) (kk : W p l e R s m args below meth c H locs cells slots Q (F0 m (pc + 3) ls (.ref (n + 3) :: rest))) : W p l e R s m args below meth c H locs cells slots Q (F0 m pc ls (.ref n :: rest)) :=
  md_get C hP 2 (by decide) q899 rfl rfl hdg kk
theorem md_g3 (C : mdC dC dI dA p s m c args cc nL) (hP : mdP dC dI dA n σ ab be H) (hdg : decode cc pc = .ok (.getfield 20, 3)) (kk : W p l e R s m args below meth c H locs cells slots Q (F0 m (pc + 3) ls (.ref (n + 4) :: rest))) : W p l e R s m args below meth c H locs cells slots Q (F0 m pc ls (.ref n :: rest)) :=
  md_get C hP 3 (by decide) q900 rfl rfl hdg kk
theorem md_g4 (C : mdC dC dI dA p s m c args cc nL) (hP : mdP dC dI dA n σ ab be H) (hdg : decode cc pc = .ok (.getfield 222, 3)) (kk : W p l e R s m args below meth c H locs cells slots Q (F0 m (pc + 3) ls (.long ab :: rest))) : W p l e R s m args below meth c H locs cells slots Q (F0 m pc ls (.ref n :: rest)) :=
  md_get C hP 4 (by decide) q901 rfl rfl hdg kk
theorem md_p4 {v : Int64} (C : mdC dC dI dA p s m c args cc nL) (hP : mdP dC dI dA n σ ab be H) (hS : va_S (mdA n) H0 H locs) (hdg : decode cc pc = .ok (.putfield 222, 3)) (kk : ∀ (H1 : Heap) (locs1 : List Loc), mdP dC dI dA n σ v be H1 → va_S (mdA n) H0 H1 locs1 → W p l e R s m args below meth c H1 locs1 cells slots Q (F0 m (pc + 3) ls rest)) : W p l e R s m args below meth c H locs cells slots Q (F0 m pc ls (.long v :: .ref n :: rest)) :=
  md_put C hP hS 4 (by decide) q901 rfl rfl rfl rfl rfl rfl hdg kk
theorem md_g5 (C : mdC dC dI dA p s m c args cc nL) (hP : mdP dC dI dA n σ ab be H) (hdg : decode cc pc = .ok (.getfield 23, 3)) (kk : W p l e R s m args below meth c H locs cells slots Q (F0 m (pc + 3) ls (.long be :: rest))) : W p l e R s m args below meth c H locs cells slots Q (F0 m pc ls (.ref n :: rest)) :=
  md_get C hP 5 (by decide) q902 rfl rfl hdg kk
theorem md_p5 {v : Int64} (C : mdC dC dI dA p s m c args cc nL) (hP : mdP dC dI dA n σ ab be H) (hS : va_S (mdA n) H0 H locs) (hdg : decode cc pc = .ok (.putfield 23, 3)) (kk : ∀ (H1 : Heap) (locs1 : List Loc), mdP dC dI dA n σ ab v H1 → va_S (mdA n) H0 H1 locs1 → W p l e R s m args below meth c H1 locs1 cells slots Q (F0 m (pc + 3) ls rest)) : W p l e R s m args below meth c H locs cells slots Q (F0 m pc ls (.long v :: .ref n :: rest)) :=
  md_put C hP hS 5 (by decide) q902 rfl rfl rfl rfl rfl rfl hdg kk
theorem md_g6 (C : mdC dC dI dA p s m c args cc nL) (hP : mdP dC dI dA n σ ab be H) (hdg : decode cc pc = .ok (.getfield 27, 3)) (kk : W p l e R s m args below meth c H locs cells slots Q (F0 m (pc + 3) ls (.ref (n + 5) :: rest))) : W p l e R s m args below meth c H locs cells slots Q (F0 m pc ls (.ref n :: rest)) :=
  md_get C hP 6 (by decide) q903 rfl rfl hdg kk
theorem md_g7 (C : mdC dC dI dA p s m c args cc nL) (hP : mdP dC dI dA n σ ab be H) (hdg : decode cc pc = .ok (.getfield 131, 3)) (kk : W p l e R s m args below meth c H locs cells slots Q (F0 m (pc + 3) ls (.int (σ 15 0) :: rest))) : W p l e R s m args below meth c H locs cells slots Q (F0 m pc ls (.ref n :: rest)) :=
  md_get C hP 7 (by decide) q904 rfl rfl hdg kk
theorem md_p7 {v : Int32} (C : mdC dC dI dA p s m c args cc nL) (hP : mdP dC dI dA n σ ab be H) (hS : va_S (mdA n) H0 H locs) (hdg : decode cc pc = .ok (.putfield 131, 3)) (kk : ∀ (H1 : Heap) (locs1 : List Loc), mdP dC dI dA n (mdS σ 15 0 v) ab be H1 → va_S (mdA n) H0 H1 locs1 → W p l e R s m args below meth c H1 locs1 cells slots Q (F0 m (pc + 3) ls rest)) : W p l e R s m args below meth c H locs cells slots Q (F0 m pc ls (.int v :: .ref n :: rest)) :=
  md_put C hP hS 7 (by decide) q904 rfl rfl rfl rfl rfl rfl hdg kk
theorem md_g8 (C : mdC dC dI dA p s m c args cc nL) (hP : mdP dC dI dA n σ ab be H) (hdg : decode cc pc = .ok (.getfield 30, 3)) (kk : W p l e R s m args below meth c H locs cells slots Q (F0 m (pc + 3) ls (.ref (n + 6) :: rest))) : W p l e R s m args below meth c H locs cells slots Q (F0 m pc ls (.ref n :: rest)) :=
  md_get C hP 8 (by decide) q905 rfl rfl hdg kk
theorem md_g9 (C : mdC dC dI dA p s m c args cc nL) (hP : mdP dC dI dA n σ ab be H) (hdg : decode cc pc = .ok (.getfield 33, 3)) (kk : W p l e R s m args below meth c H locs cells slots Q (F0 m (pc + 3) ls (.ref (n + 7) :: rest))) : W p l e R s m args below meth c H locs cells slots Q (F0 m pc ls (.ref n :: rest)) :=
  md_get C hP 9 (by decide) q906 rfl rfl hdg kk
theorem md_g10 (C : mdC dC dI dA p s m c args cc nL) (hP : mdP dC dI dA n σ ab be H) (hdg : decode cc pc = .ok (.getfield 36, 3)) (kk : W p l e R s m args below meth c H locs cells slots Q (F0 m (pc + 3) ls (.ref (n + 8) :: rest))) : W p l e R s m args below meth c H locs cells slots Q (F0 m pc ls (.ref n :: rest)) :=
  md_get C hP 10 (by decide) q907 rfl rfl hdg kk
theorem md_g11 (C : mdC dC dI dA p s m c args cc nL) (hP : mdP dC dI dA n σ ab be H) (hdg : decode cc pc = .ok (.getfield 39, 3)) (kk : W p l e R s m args below meth c H locs cells slots Q (F0 m (pc + 3) ls (.ref (n + 9) :: rest))) : W p l e R s m args below meth c H locs cells slots Q (F0 m pc ls (.ref n :: rest)) :=
  md_get C hP 11 (by decide) q908 rfl rfl hdg kk
theorem md_g12 (C : mdC dC dI dA p s m c args cc nL) (hP : mdP dC dI dA n σ ab be H) (hdg : decode cc pc = .ok (.getfield 42, 3)) (kk : W p l e R s m args below meth c H locs cells slots Q (F0 m (pc + 3) ls (.ref (n + 10) :: rest))) : W p l e R s m args below meth c H locs cells slots Q (F0 m pc ls (.ref n :: rest)) :=
  md_get C hP 12 (by decide) q909 rfl rfl hdg kk
theorem md_g13 (C : mdC dC dI dA p s m c args cc nL) (hP : mdP dC dI dA n σ ab be H) (hdg : decode cc pc = .ok (.getfield 45, 3)) (kk : W p l e R s m args below meth c H locs cells slots Q (F0 m (pc + 3) ls (.ref (n + 11) :: rest))) : W p l e R s m args below meth c H locs cells slots Q (F0 m pc ls (.ref n :: rest)) :=
  md_get C hP 13 (by decide) q910 rfl rfl hdg kk
theorem md_g14 (C : mdC dC dI dA p s m c args cc nL) (hP : mdP dC dI dA n σ ab be H) (hdg : decode cc pc = .ok (.getfield 174, 3)) (kk : W p l e R s m args below meth c H locs cells slots Q (F0 m (pc + 3) ls (.int (σ 15 1) :: rest))) : W p l e R s m args below meth c H locs cells slots Q (F0 m pc ls (.ref n :: rest)) :=
  md_get C hP 14 (by decide) q911 rfl rfl hdg kk
theorem md_p14 {v : Int32} (C : mdC dC dI dA p s m c args cc nL) (hP : mdP dC dI dA n σ ab be H) (hS : va_S (mdA n) H0 H locs) (hdg : decode cc pc = .ok (.putfield 174, 3)) (kk : ∀ (H1 : Heap) (locs1 : List Loc), mdP dC dI dA n (mdS σ 15 1 v) ab be H1 → va_S (mdA n) H0 H1 locs1 → W p l e R s m args below meth c H1 locs1 cells slots Q (F0 m (pc + 3) ls rest)) : W p l e R s m args below meth c H locs cells slots Q (F0 m pc ls (.int v :: .ref n :: rest)) :=
  md_put C hP hS 14 (by decide) q911 rfl rfl rfl rfl rfl rfl hdg kk
theorem md_g15 (C : mdC dC dI dA p s m c args cc nL) (hP : mdP dC dI dA n σ ab be H) (hdg : decode cc pc = .ok (.getfield 177, 3)) (kk : W p l e R s m args below meth c H locs cells slots Q (F0 m (pc + 3) ls (.int (σ 15 2) :: rest))) : W p l e R s m args below meth c H locs cells slots Q (F0 m pc ls (.ref n :: rest)) :=
  md_get C hP 15 (by decide) q912 rfl rfl hdg kk
theorem md_p15 {v : Int32} (C : mdC dC dI dA p s m c args cc nL) (hP : mdP dC dI dA n σ ab be H) (hS : va_S (mdA n) H0 H locs) (hdg : decode cc pc = .ok (.putfield 177, 3)) (kk : ∀ (H1 : Heap) (locs1 : List Loc), mdP dC dI dA n (mdS σ 15 2 v) ab be H1 → va_S (mdA n) H0 H1 locs1 → W p l e R s m args below meth c H1 locs1 cells slots Q (F0 m (pc + 3) ls rest)) : W p l e R s m args below meth c H locs cells slots Q (F0 m pc ls (.int v :: .ref n :: rest)) :=
  md_put C hP hS 15 (by decide) q912 rfl rfl rfl rfl rfl rfl hdg kk
theorem md_g16 (C : mdC dC dI dA p s m c args cc nL) (hP : mdP dC dI dA n σ ab be H) (hdg : decode cc pc = .ok (.getfield 198, 3)) (kk : W p l e R s m args below meth c H locs cells slots Q (F0 m (pc + 3) ls (.int (σ 15 3) :: rest))) : W p l e R s m args below meth c H locs cells slots Q (F0 m pc ls (.ref n :: rest)) :=
  md_get C hP 16 (by decide) q913 rfl rfl hdg kk
theorem md_p16 {v : Int32} (C : mdC dC dI dA p s m c args cc nL) (hP : mdP dC dI dA n σ ab be H) (hS : va_S (mdA n) H0 H locs) (hdg : decode cc pc = .ok (.putfield 198, 3)) (kk : ∀ (H1 : Heap) (locs1 : List Loc), mdP dC dI dA n (mdS σ 15 3 v) ab be H1 → va_S (mdA n) H0 H1 locs1 → W p l e R s m args below meth c H1 locs1 cells slots Q (F0 m (pc + 3) ls rest)) : W p l e R s m args below meth c H locs cells slots Q (F0 m pc ls (.int v :: .ref n :: rest)) :=
  md_put C hP hS 16 (by decide) q913 rfl rfl rfl rfl rfl rfl hdg kk
theorem md_g17 (C : mdC dC dI dA p s m c args cc nL) (hP : mdP dC dI dA n σ ab be H) (hdg : decode cc pc = .ok (.getfield 201, 3)) (kk : W p l e R s m args below meth c H locs cells slots Q (F0 m (pc + 3) ls (.int (σ 15 4) :: rest))) : W p l e R s m args below meth c H locs cells slots Q (F0 m pc ls (.ref n :: rest)) :=
  md_get C hP 17 (by decide) q914 rfl rfl hdg kk
theorem md_p17 {v : Int32} (C : mdC dC dI dA p s m c args cc nL) (hP : mdP dC dI dA n σ ab be H) (hS : va_S (mdA n) H0 H locs) (hdg : decode cc pc = .ok (.putfield 201, 3)) (kk : ∀ (H1 : Heap) (locs1 : List Loc), mdP dC dI dA n (mdS σ 15 4 v) ab be H1 → va_S (mdA n) H0 H1 locs1 → W p l e R s m args below meth c H1 locs1 cells slots Q (F0 m (pc + 3) ls rest)) : W p l e R s m args below meth c H locs cells slots Q (F0 m pc ls (.int v :: .ref n :: rest)) :=
  md_put C hP hS 17 (by decide) q914 rfl rfl rfl rfl rfl rfl hdg kk
theorem md_g18 (C : mdC dC dI dA p s m c args cc nL) (hP : mdP dC dI dA n σ ab be H) (hdg : decode cc pc = .ok (.getfield 48, 3)) (kk : W p l e R s m args below meth c H locs cells slots Q (F0 m (pc + 3) ls (.ref (n + 12) :: rest))) : W p l e R s m args below meth c H locs cells slots Q (F0 m pc ls (.ref n :: rest)) :=
  md_get C hP 18 (by decide) q915 rfl rfl hdg kk
theorem md_g19 (C : mdC dC dI dA p s m c args cc nL) (hP : mdP dC dI dA n σ ab be H) (hdg : decode cc pc = .ok (.getfield 51, 3)) (kk : W p l e R s m args below meth c H locs cells slots Q (F0 m (pc + 3) ls (.ref (n + 13) :: rest))) : W p l e R s m args below meth c H locs cells slots Q (F0 m pc ls (.ref n :: rest)) :=
  md_get C hP 19 (by decide) q916 rfl rfl hdg kk
theorem md_g20 (C : mdC dC dI dA p s m c args cc nL) (hP : mdP dC dI dA n σ ab be H) (hdg : decode cc pc = .ok (.getfield 247, 3)) (kk : W p l e R s m args below meth c H locs cells slots Q (F0 m (pc + 3) ls (.int (σ 15 5) :: rest))) : W p l e R s m args below meth c H locs cells slots Q (F0 m pc ls (.ref n :: rest)) :=
  md_get C hP 20 (by decide) q917 rfl rfl hdg kk
theorem md_p20 {v : Int32} (C : mdC dC dI dA p s m c args cc nL) (hP : mdP dC dI dA n σ ab be H) (hS : va_S (mdA n) H0 H locs) (hdg : decode cc pc = .ok (.putfield 247, 3)) (kk : ∀ (H1 : Heap) (locs1 : List Loc), mdP dC dI dA n (mdS σ 15 5 v) ab be H1 → va_S (mdA n) H0 H1 locs1 → W p l e R s m args below meth c H1 locs1 cells slots Q (F0 m (pc + 3) ls rest)) : W p l e R s m args below meth c H locs cells slots Q (F0 m pc ls (.int v :: .ref n :: rest)) :=
  md_put C hP hS 20 (by decide) q917 rfl rfl rfl rfl rfl rfl hdg kk
theorem md_g21 (C : mdC dC dI dA p s m c args cc nL) (hP : mdP dC dI dA n σ ab be H) (hdg : decode cc pc = .ok (.getfield 258, 3)) (kk : W p l e R s m args below meth c H locs cells slots Q (F0 m (pc + 3) ls (.int (σ 15 6) :: rest))) : W p l e R s m args below meth c H locs cells slots Q (F0 m pc ls (.ref n :: rest)) :=
  md_get C hP 21 (by decide) q918 rfl rfl hdg kk
theorem md_p21 {v : Int32} (C : mdC dC dI dA p s m c args cc nL) (hP : mdP dC dI dA n σ ab be H) (hS : va_S (mdA n) H0 H locs) (hdg : decode cc pc = .ok (.putfield 258, 3)) (kk : ∀ (H1 : Heap) (locs1 : List Loc), mdP dC dI dA n (mdS σ 15 6 v) ab be H1 → va_S (mdA n) H0 H1 locs1 → W p l e R s m args below meth c H1 locs1 cells slots Q (F0 m (pc + 3) ls rest)) : W p l e R s m args below meth c H locs cells slots Q (F0 m pc ls (.int v :: .ref n :: rest)) :=
  md_put C hP hS 21 (by decide) q918 rfl rfl rfl rfl rfl rfl hdg kk
theorem md_g22 (C : mdC dC dI dA p s m c args cc nL) (hP : mdP dC dI dA n σ ab be H) (hdg : decode cc pc = .ok (.getfield 261, 3)) (kk : W p l e R s m args below meth c H locs cells slots Q (F0 m (pc + 3) ls (.int (σ 15 7) :: rest))) : W p l e R s m args below meth c H locs cells slots Q (F0 m pc ls (.ref n :: rest)) :=
  md_get C hP 22 (by decide) q919 rfl rfl hdg kk
theorem md_p22 {v : Int32} (C : mdC dC dI dA p s m c args cc nL) (hP : mdP dC dI dA n σ ab be H) (hS : va_S (mdA n) H0 H locs) (hdg : decode cc pc = .ok (.putfield 261, 3)) (kk : ∀ (H1 : Heap) (locs1 : List Loc), mdP dC dI dA n (mdS σ 15 7 v) ab be H1 → va_S (mdA n) H0 H1 locs1 → W p l e R s m args below meth c H1 locs1 cells slots Q (F0 m (pc + 3) ls rest)) : W p l e R s m args below meth c H locs cells slots Q (F0 m pc ls (.int v :: .ref n :: rest)) :=
  md_put C hP hS 22 (by decide) q919 rfl rfl rfl rfl rfl rfl hdg kk
theorem md_g23 (C : mdC dC dI dA p s m c args cc nL) (hP : mdP dC dI dA n σ ab be H) (hdg : decode cc pc = .ok (.getfield 264, 3)) (kk : W p l e R s m args below meth c H locs cells slots Q (F0 m (pc + 3) ls (.int (σ 15 8) :: rest))) : W p l e R s m args below meth c H locs cells slots Q (F0 m pc ls (.ref n :: rest)) :=
  md_get C hP 23 (by decide) q920 rfl rfl hdg kk
theorem md_p23 {v : Int32} (C : mdC dC dI dA p s m c args cc nL) (hP : mdP dC dI dA n σ ab be H) (hS : va_S (mdA n) H0 H locs) (hdg : decode cc pc = .ok (.putfield 264, 3)) (kk : ∀ (H1 : Heap) (locs1 : List Loc), mdP dC dI dA n (mdS σ 15 8 v) ab be H1 → va_S (mdA n) H0 H1 locs1 → W p l e R s m args below meth c H1 locs1 cells slots Q (F0 m (pc + 3) ls rest)) : W p l e R s m args below meth c H locs cells slots Q (F0 m pc ls (.int v :: .ref n :: rest)) :=
  md_put C hP hS 23 (by decide) q920 rfl rfl rfl rfl rfl rfl hdg kk
theorem md_g24 (C : mdC dC dI dA p s m c args cc nL) (hP : mdP dC dI dA n σ ab be H) (hdg : decode cc pc = .ok (.getfield 267, 3)) (kk : W p l e R s m args below meth c H locs cells slots Q (F0 m (pc + 3) ls (.int (σ 15 9) :: rest))) : W p l e R s m args below meth c H locs cells slots Q (F0 m pc ls (.ref n :: rest)) :=
  md_get C hP 24 (by decide) q921 rfl rfl hdg kk
theorem md_p24 {v : Int32} (C : mdC dC dI dA p s m c args cc nL) (hP : mdP dC dI dA n σ ab be H) (hS : va_S (mdA n) H0 H locs) (hdg : decode cc pc = .ok (.putfield 267, 3)) (kk : ∀ (H1 : Heap) (locs1 : List Loc), mdP dC dI dA n (mdS σ 15 9 v) ab be H1 → va_S (mdA n) H0 H1 locs1 → W p l e R s m args below meth c H1 locs1 cells slots Q (F0 m (pc + 3) ls rest)) : W p l e R s m args below meth c H locs cells slots Q (F0 m pc ls (.int v :: .ref n :: rest)) :=
  md_put C hP hS 24 (by decide) q921 rfl rfl rfl rfl rfl rfl hdg kk
theorem md_g25 (C : mdC dC dI dA p s m c args cc nL) (hP : mdP dC dI dA n σ ab be H) (hdg : decode cc pc = .ok (.getfield 54, 3)) (kk : W p l e R s m args below meth c H locs cells slots Q (F0 m (pc + 3) ls (.ref (n + 14) :: rest))) : W p l e R s m args below meth c H locs cells slots Q (F0 m pc ls (.ref n :: rest)) :=
  md_get C hP 25 (by decide) q922 rfl rfl hdg kk
theorem md_g26 (C : mdC dC dI dA p s m c args cc nL) (hP : mdP dC dI dA n σ ab be H) (hdg : decode cc pc = .ok (.getfield 57, 3)) (kk : W p l e R s m args below meth c H locs cells slots Q (F0 m (pc + 3) ls (.ref (n + 15) :: rest))) : W p l e R s m args below meth c H locs cells slots Q (F0 m pc ls (.ref n :: rest)) :=
  md_get C hP 26 (by decide) q923 rfl rfl hdg kk
theorem md_l0 {k : Nat} (C : mdC dC dI dA p s m c args cc nL) (hP : mdP dC dI dA n σ ab be H) (hk : k < 523) (hdg : decode cc pc = .ok (.iaload, 1)) (kk : W p l e R s m args below meth c H locs cells slots Q (F0 m (pc + 1) ls (.int (σ 0 k) :: rest))) : W p l e R s m args below meth c H locs cells slots Q (F0 m pc ls (.int (nI k) :: .ref (n + 1) :: rest)) :=
  md_ld C hP 1 523 rfl hk (by decide) hdg kk
theorem md_s0 {k : Nat} {v : Int32} (C : mdC dC dI dA p s m c args cc nL) (hP : mdP dC dI dA n σ ab be H) (hS : va_S (mdA n) H0 H locs) (hk : k < 523) (hdg : decode cc pc = .ok (.iastore, 1)) (kk : ∀ (H1 : Heap) (locs1 : List Loc), mdP dC dI dA n (mdS σ 0 k v) ab be H1 → va_S (mdA n) H0 H1 locs1 → W p l e R s m args below meth c H1 locs1 cells slots Q (F0 m (pc + 1) ls rest)) : W p l e R s m args below meth c H locs cells slots Q (F0 m pc ls (.int v :: .int (nI k) :: .ref (n + 1) :: rest)) :=
  md_st C hP hS 1 523 rfl hk (by decide) rfl hdg kk
theorem md_l1 {k : Nat} (C : mdC dC dI dA p s m c args cc nL) (hP : mdP dC dI dA n σ ab be H) (hk : k < 1046) (hdg : decode cc pc = .ok (.iaload, 1)) (kk : W p l e R s m args below meth c H locs cells slots Q (F0 m (pc + 1) ls (.int (σ 1 k) :: rest))) : W p l e R s m args below meth c H locs cells slots Q (F0 m pc ls (.int (nI k) :: .ref (n + 2) :: rest)) :=
  md_ld C hP 2 1046 rfl hk (by decide) hdg kk
theorem md_s1 {k : Nat} {v : Int32} (C : mdC dC dI dA p s m c args cc nL) (hP : mdP dC dI dA n σ ab be H) (hS : va_S (mdA n) H0 H locs) (hk : k < 1046) (hdg : decode cc pc = .ok (.iastore, 1)) (kk : ∀ (H1 : Heap) (locs1 : List Loc), mdP dC dI dA n (mdS σ 1 k v) ab be H1 → va_S (mdA n) H0 H1 locs1 → W p l e R s m args below meth c H1 locs1 cells slots Q (F0 m (pc + 1) ls rest)) : W p l e R s m args below meth c H locs cells slots Q (F0 m pc ls (.int v :: .int (nI k) :: .ref (n + 2) :: rest)) :=
  md_st C hP hS 2 1046 rfl hk (by decide) rfl hdg kk
theorem md_l3 {k : Nat} (C : mdC dC dI dA p s m c args cc nL) (hP : mdP dC dI dA n σ ab be H) (hk : k < 3) (hdg : decode cc pc = .ok (.iaload, 1)) (kk : W p l e R s m args below meth c H locs cells slots Q (F0 m (pc + 1) ls (.int (σ 3 k) :: rest))) : W p l e R s m args below meth c H locs cells slots Q (F0 m pc ls (.int (nI k) :: .ref (n + 4) :: rest)) :=
  md_ld C hP 4 3 rfl hk (by decide) hdg kk
theorem md_s3 {k : Nat} {v : Int32} (C : mdC dC dI dA p s m c args cc nL) (hP : mdP dC dI dA n σ ab be H) (hS : va_S (mdA n) H0 H locs) (hk : k < 3) (hdg : decode cc pc = .ok (.iastore, 1)) (kk : ∀ (H1 : Heap) (locs1 : List Loc), mdP dC dI dA n (mdS σ 3 k v) ab be H1 → va_S (mdA n) H0 H1 locs1 → W p l e R s m args below meth c H1 locs1 cells slots Q (F0 m (pc + 1) ls rest)) : W p l e R s m args below meth c H locs cells slots Q (F0 m pc ls (.int v :: .int (nI k) :: .ref (n + 4) :: rest)) :=
  md_st C hP hS 4 3 rfl hk (by decide) rfl hdg kk
theorem md_l4 {k : Nat} (C : mdC dC dI dA p s m c args cc nL) (hP : mdP dC dI dA n σ ab be H) (hk : k < 6) (hdg : decode cc pc = .ok (.iaload, 1)) (kk : W p l e R s m args below meth c H locs cells slots Q (F0 m (pc + 1) ls (.int (σ 4 k) :: rest))) : W p l e R s m args below meth c H locs cells slots Q (F0 m pc ls (.int (nI k) :: .ref (n + 5) :: rest)) :=
  md_ld C hP 5 6 rfl hk (by decide) hdg kk
theorem md_s4 {k : Nat} {v : Int32} (C : mdC dC dI dA p s m c args cc nL) (hP : mdP dC dI dA n σ ab be H) (hS : va_S (mdA n) H0 H locs) (hk : k < 6) (hdg : decode cc pc = .ok (.iastore, 1)) (kk : ∀ (H1 : Heap) (locs1 : List Loc), mdP dC dI dA n (mdS σ 4 k v) ab be H1 → va_S (mdA n) H0 H1 locs1 → W p l e R s m args below meth c H1 locs1 cells slots Q (F0 m (pc + 1) ls rest)) : W p l e R s m args below meth c H locs cells slots Q (F0 m pc ls (.int v :: .int (nI k) :: .ref (n + 5) :: rest)) :=
  md_st C hP hS 5 6 rfl hk (by decide) rfl hdg kk
theorem md_l5 {k : Nat} (C : mdC dC dI dA p s m c args cc nL) (hP : mdP dC dI dA n σ ab be H) (hk : k < 7) (hdg : decode cc pc = .ok (.iaload, 1)) (kk : W p l e R s m args below meth c H locs cells slots Q (F0 m (pc + 1) ls (.int (σ 5 k) :: rest))) : W p l e R s m args below meth c H locs cells slots Q (F0 m pc ls (.int (nI k) :: .ref (n + 6) :: rest)) :=
  md_ld C hP 6 7 rfl hk (by decide) hdg kk
theorem md_s5 {k : Nat} {v : Int32} (C : mdC dC dI dA p s m c args cc nL) (hP : mdP dC dI dA n σ ab be H) (hS : va_S (mdA n) H0 H locs) (hk : k < 7) (hdg : decode cc pc = .ok (.iastore, 1)) (kk : ∀ (H1 : Heap) (locs1 : List Loc), mdP dC dI dA n (mdS σ 5 k v) ab be H1 → va_S (mdA n) H0 H1 locs1 → W p l e R s m args below meth c H1 locs1 cells slots Q (F0 m (pc + 1) ls rest)) : W p l e R s m args below meth c H locs cells slots Q (F0 m pc ls (.int v :: .int (nI k) :: .ref (n + 6) :: rest)) :=
  md_st C hP hS 6 7 rfl hk (by decide) rfl hdg kk
theorem md_l6 {k : Nat} (C : mdC dC dI dA p s m c args cc nL) (hP : mdP dC dI dA n σ ab be H) (hk : k < 7) (hdg : decode cc pc = .ok (.iaload, 1)) (kk : W p l e R s m args below meth c H locs cells slots Q (F0 m (pc + 1) ls (.int (σ 6 k) :: rest))) : W p l e R s m args below meth c H locs cells slots Q (F0 m pc ls (.int (nI k) :: .ref (n + 7) :: rest)) :=
  md_ld C hP 7 7 rfl hk (by decide) hdg kk
theorem md_s6 {k : Nat} {v : Int32} (C : mdC dC dI dA p s m c args cc nL) (hP : mdP dC dI dA n σ ab be H) (hS : va_S (mdA n) H0 H locs) (hk : k < 7) (hdg : decode cc pc = .ok (.iastore, 1)) (kk : ∀ (H1 : Heap) (locs1 : List Loc), mdP dC dI dA n (mdS σ 6 k v) ab be H1 → va_S (mdA n) H0 H1 locs1 → W p l e R s m args below meth c H1 locs1 cells slots Q (F0 m (pc + 1) ls rest)) : W p l e R s m args below meth c H locs cells slots Q (F0 m pc ls (.int v :: .int (nI k) :: .ref (n + 7) :: rest)) :=
  md_st C hP hS 7 7 rfl hk (by decide) rfl hdg kk
theorem md_l7 {k : Nat} (C : mdC dC dI dA p s m c args cc nL) (hP : mdP dC dI dA n σ ab be H) (hk : k < 7) (hdg : decode cc pc = .ok (.iaload, 1)) (kk : W p l e R s m args below meth c H locs cells slots Q (F0 m (pc + 1) ls (.int (σ 7 k) :: rest))) : W p l e R s m args below meth c H locs cells slots Q (F0 m pc ls (.int (nI k) :: .ref (n + 8) :: rest)) :=
  md_ld C hP 8 7 rfl hk (by decide) hdg kk
theorem md_s7 {k : Nat} {v : Int32} (C : mdC dC dI dA p s m c args cc nL) (hP : mdP dC dI dA n σ ab be H) (hS : va_S (mdA n) H0 H locs) (hk : k < 7) (hdg : decode cc pc = .ok (.iastore, 1)) (kk : ∀ (H1 : Heap) (locs1 : List Loc), mdP dC dI dA n (mdS σ 7 k v) ab be H1 → va_S (mdA n) H0 H1 locs1 → W p l e R s m args below meth c H1 locs1 cells slots Q (F0 m (pc + 1) ls rest)) : W p l e R s m args below meth c H locs cells slots Q (F0 m pc ls (.int v :: .int (nI k) :: .ref (n + 8) :: rest)) :=
  md_st C hP hS 8 7 rfl hk (by decide) rfl hdg kk
theorem md_l8 {k : Nat} (C : mdC dC dI dA p s m c args cc nL) (hP : mdP dC dI dA n σ ab be H) (hk : k < 7) (hdg : decode cc pc = .ok (.iaload, 1)) (kk : W p l e R s m args below meth c H locs cells slots Q (F0 m (pc + 1) ls (.int (σ 8 k) :: rest))) : W p l e R s m args below meth c H locs cells slots Q (F0 m pc ls (.int (nI k) :: .ref (n + 9) :: rest)) :=
  md_ld C hP 9 7 rfl hk (by decide) hdg kk
theorem md_s8 {k : Nat} {v : Int32} (C : mdC dC dI dA p s m c args cc nL) (hP : mdP dC dI dA n σ ab be H) (hS : va_S (mdA n) H0 H locs) (hk : k < 7) (hdg : decode cc pc = .ok (.iastore, 1)) (kk : ∀ (H1 : Heap) (locs1 : List Loc), mdP dC dI dA n (mdS σ 8 k v) ab be H1 → va_S (mdA n) H0 H1 locs1 → W p l e R s m args below meth c H1 locs1 cells slots Q (F0 m (pc + 1) ls rest)) : W p l e R s m args below meth c H locs cells slots Q (F0 m pc ls (.int v :: .int (nI k) :: .ref (n + 9) :: rest)) :=
  md_st C hP hS 9 7 rfl hk (by decide) rfl hdg kk
theorem md_l9 {k : Nat} (C : mdC dC dI dA p s m c args cc nL) (hP : mdP dC dI dA n σ ab be H) (hk : k < 7) (hdg : decode cc pc = .ok (.iaload, 1)) (kk : W p l e R s m args below meth c H locs cells slots Q (F0 m (pc + 1) ls (.int (σ 9 k) :: rest))) : W p l e R s m args below meth c H locs cells slots Q (F0 m pc ls (.int (nI k) :: .ref (n + 10) :: rest)) :=
  md_ld C hP 10 7 rfl hk (by decide) hdg kk
theorem md_s9 {k : Nat} {v : Int32} (C : mdC dC dI dA p s m c args cc nL) (hP : mdP dC dI dA n σ ab be H) (hS : va_S (mdA n) H0 H locs) (hk : k < 7) (hdg : decode cc pc = .ok (.iastore, 1)) (kk : ∀ (H1 : Heap) (locs1 : List Loc), mdP dC dI dA n (mdS σ 9 k v) ab be H1 → va_S (mdA n) H0 H1 locs1 → W p l e R s m args below meth c H1 locs1 cells slots Q (F0 m (pc + 1) ls rest)) : W p l e R s m args below meth c H locs cells slots Q (F0 m pc ls (.int v :: .int (nI k) :: .ref (n + 10) :: rest)) :=
  md_st C hP hS 10 7 rfl hk (by decide) rfl hdg kk
theorem md_l10 {k : Nat} (C : mdC dC dI dA p s m c args cc nL) (hP : mdP dC dI dA n σ ab be H) (hk : k < 7) (hdg : decode cc pc = .ok (.iaload, 1)) (kk : W p l e R s m args below meth c H locs cells slots Q (F0 m (pc + 1) ls (.int (σ 10 k) :: rest))) : W p l e R s m args below meth c H locs cells slots Q (F0 m pc ls (.int (nI k) :: .ref (n + 11) :: rest)) :=
  md_ld C hP 11 7 rfl hk (by decide) hdg kk
theorem md_s10 {k : Nat} {v : Int32} (C : mdC dC dI dA p s m c args cc nL) (hP : mdP dC dI dA n σ ab be H) (hS : va_S (mdA n) H0 H locs) (hk : k < 7) (hdg : decode cc pc = .ok (.iastore, 1)) (kk : ∀ (H1 : Heap) (locs1 : List Loc), mdP dC dI dA n (mdS σ 10 k v) ab be H1 → va_S (mdA n) H0 H1 locs1 → W p l e R s m args below meth c H1 locs1 cells slots Q (F0 m (pc + 1) ls rest)) : W p l e R s m args below meth c H locs cells slots Q (F0 m pc ls (.int v :: .int (nI k) :: .ref (n + 11) :: rest)) :=
  md_st C hP hS 11 7 rfl hk (by decide) rfl hdg kk
theorem md_l11 {k : Nat} (C : mdC dC dI dA p s m c args cc nL) (hP : mdP dC dI dA n σ ab be H) (hk : k < 6) (hdg : decode cc pc = .ok (.iaload, 1)) (kk : W p l e R s m args below meth c H locs cells slots Q (F0 m (pc + 1) ls (.int (σ 11 k) :: rest))) : W p l e R s m args below meth c H locs cells slots Q (F0 m pc ls (.int (nI k) :: .ref (n + 12) :: rest)) :=
  md_ld C hP 12 6 rfl hk (by decide) hdg kk
theorem md_s11 {k : Nat} {v : Int32} (C : mdC dC dI dA p s m c args cc nL) (hP : mdP dC dI dA n σ ab be H) (hS : va_S (mdA n) H0 H locs) (hk : k < 6) (hdg : decode cc pc = .ok (.iastore, 1)) (kk : ∀ (H1 : Heap) (locs1 : List Loc), mdP dC dI dA n (mdS σ 11 k v) ab be H1 → va_S (mdA n) H0 H1 locs1 → W p l e R s m args below meth c H1 locs1 cells slots Q (F0 m (pc + 1) ls rest)) : W p l e R s m args below meth c H locs cells slots Q (F0 m pc ls (.int v :: .int (nI k) :: .ref (n + 12) :: rest)) :=
  md_st C hP hS 12 6 rfl hk (by decide) rfl hdg kk
theorem md_l12 {k : Nat} (C : mdC dC dI dA p s m c args cc nL) (hP : mdP dC dI dA n σ ab be H) (hk : k < 150) (hdg : decode cc pc = .ok (.iaload, 1)) (kk : W p l e R s m args below meth c H locs cells slots Q (F0 m (pc + 1) ls (.int (σ 12 k) :: rest))) : W p l e R s m args below meth c H locs cells slots Q (F0 m pc ls (.int (nI k) :: .ref (n + 13) :: rest)) :=
  md_ld C hP 13 150 rfl hk (by decide) hdg kk
theorem md_s12 {k : Nat} {v : Int32} (C : mdC dC dI dA p s m c args cc nL) (hP : mdP dC dI dA n σ ab be H) (hS : va_S (mdA n) H0 H locs) (hk : k < 150) (hdg : decode cc pc = .ok (.iastore, 1)) (kk : ∀ (H1 : Heap) (locs1 : List Loc), mdP dC dI dA n (mdS σ 12 k v) ab be H1 → va_S (mdA n) H0 H1 locs1 → W p l e R s m args below meth c H1 locs1 cells slots Q (F0 m (pc + 1) ls rest)) : W p l e R s m args below meth c H locs cells slots Q (F0 m pc ls (.int v :: .int (nI k) :: .ref (n + 13) :: rest)) :=
  md_st C hP hS 13 150 rfl hk (by decide) rfl hdg kk
theorem md_l13 {k : Nat} (C : mdC dC dI dA p s m c args cc nL) (hP : mdP dC dI dA n σ ab be H) (hk : k < 115) (hdg : decode cc pc = .ok (.iaload, 1)) (kk : W p l e R s m args below meth c H locs cells slots Q (F0 m (pc + 1) ls (.int (σ 13 k) :: rest))) : W p l e R s m args below meth c H locs cells slots Q (F0 m pc ls (.int (nI k) :: .ref (n + 14) :: rest)) :=
  md_ld C hP 14 115 rfl hk (by decide) hdg kk
theorem md_s13 {k : Nat} {v : Int32} (C : mdC dC dI dA p s m c args cc nL) (hP : mdP dC dI dA n σ ab be H) (hS : va_S (mdA n) H0 H locs) (hk : k < 115) (hdg : decode cc pc = .ok (.iastore, 1)) (kk : ∀ (H1 : Heap) (locs1 : List Loc), mdP dC dI dA n (mdS σ 13 k v) ab be H1 → va_S (mdA n) H0 H1 locs1 → W p l e R s m args below meth c H1 locs1 cells slots Q (F0 m (pc + 1) ls rest)) : W p l e R s m args below meth c H locs cells slots Q (F0 m pc ls (.int v :: .int (nI k) :: .ref (n + 14) :: rest)) :=
  md_st C hP hS 14 115 rfl hk (by decide) rfl hdg kk
theorem md_l14 {k : Nat} (C : mdC dC dI dA p s m c args cc nL) (hP : mdP dC dI dA n σ ab be H) (hk : k < 4) (hdg : decode cc pc = .ok (.iaload, 1)) (kk : W p l e R s m args below meth c H locs cells slots Q (F0 m (pc + 1) ls (.int (σ 14 k) :: rest))) : W p l e R s m args below meth c H locs cells slots Q (F0 m pc ls (.int (nI k) :: .ref (n + 15) :: rest)) :=
  md_ld C hP 15 4 rfl hk (by decide) hdg kk
theorem md_s14 {k : Nat} {v : Int32} (C : mdC dC dI dA p s m c args cc nL) (hP : mdP dC dI dA n σ ab be H) (hS : va_S (mdA n) H0 H locs) (hk : k < 4) (hdg : decode cc pc = .ok (.iastore, 1)) (kk : ∀ (H1 : Heap) (locs1 : List Loc), mdP dC dI dA n (mdS σ 14 k v) ab be H1 → va_S (mdA n) H0 H1 locs1 → W p l e R s m args below meth c H1 locs1 cells slots Q (F0 m (pc + 1) ls rest)) : W p l e R s m args below meth c H locs cells slots Q (F0 m pc ls (.int v :: .int (nI k) :: .ref (n + 15) :: rest)) :=
  md_st C hP hS 15 4 rfl hk (by decide) rfl hdg kk
theorem md_l2 {k : Nat} (C : mdC dC dI dA p s m c args cc nL) (hP : mdP dC dI dA n σ ab be H) (hk : k < 2) (hdg : decode cc pc = .ok (.baload, 1)) (kk : W p l e R s m args below meth c H locs cells slots Q (F0 m (pc + 1) ls (.int (σ 2 k) :: rest))) : W p l e R s m args below meth c H locs cells slots Q (F0 m pc ls (.int (nI k) :: .ref (n + 3) :: rest)) :=
  va_zald C.1 C.2.1 C.2.2.2.2.2 hP 3 1 (show (mdW dA n σ ab be)[3]? = some (n + 3, .inl (dA 1, 2, .inl (σ 2))) from rfl) rfl (vp_in_nI hk (by decide)) hdg (by rw [nI_clamp (by omega)]; exact kk)
theorem md_s2 {k : Nat} (C : mdC dC dI dA p s m c args cc nL) (hP : mdP dC dI dA n σ ab be H) (hS : va_S (mdA n) H0 H locs) (hk : k < 2) (hdg : decode cc pc = .ok (.bastore, 1)) (kk : ∀ (H1 : Heap) (locs1 : List Loc), mdP dC dI dA n (mdS σ 2 k 1) ab be H1 → va_S (mdA n) H0 H1 locs1 → W p l e R s m args below meth c H1 locs1 cells slots Q (F0 m (pc + 1) ls rest)) : W p l e R s m args below meth c H locs cells slots Q (F0 m pc ls (.int 1 :: .int (nI k) :: .ref (n + 3) :: rest)) :=
  va_zast C.1 C.2.1 C.2.2.2.2.2 hP (md_D dA n σ ab be) hS 3 1 (show (mdW dA n σ ab be)[3]? = some (n + 3, .inl (dA 1, 2, .inl (σ 2))) from rfl) rfl (vp_in_nI hk (by decide)) hdg (fun H1 locs1 h1 _ h3 => kk H1 locs1 (by unfold mdP; rw [nI_clamp (by omega)] at h1; exact h1) h3)
end MD
