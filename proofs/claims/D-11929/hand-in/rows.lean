section
/-! base rows: ints as naturals, arrays as one natural of 64-bit cells, data ints affine in c -/
theorem zb_bv (n : Nat) : (nI n).toBitVec = BitVec.ofNat 32 n := rfl
theorem zb_inj {x y : Int32} (h : x.toBitVec = y.toBitVec) : x = y := Int32.toBitVec_inj.mp h
theorem zb_toInt (n : Nat) : (nI n).toInt = (((n + 2147483648) % 4294967296 : Nat) : Int) - 2147483648 := by
  show (BitVec.ofNat 32 n).toInt = _
  rw [BitVec.toInt_ofNat', Int.bmod_def]
  split <;> omega
theorem zb_eqI {x y : Nat} : nI x = nI y ↔ x % 4294967296 = y % 4294967296 := by
  constructor
  · intro h
    have h2 : (BitVec.ofNat 32 x).toNat = (BitVec.ofNat 32 y).toNat := congrArg (fun z : Int32 => z.toBitVec.toNat) h
    rw [BitVec.toNat_ofNat, BitVec.toNat_ofNat] at h2
    exact h2
  · intro h
    apply zb_inj
    apply BitVec.eq_of_toNat_eq
    rw [zb_bv, zb_bv, BitVec.toNat_ofNat, BitVec.toNat_ofNat]
    exact h
theorem zb_nIm (n : Nat) : nI (n % 4294967296) = nI n := zb_eqI.mpr (by omega)
/-! combinators of the model -/
def zb_if (b A B : Bool) : Bool := cond b A B
def zb_if3 (t : Option Bool) (A B : Bool) : Bool := match t with
  | some true => A
  | some false => B
  | none => cond A B false
def zb_g (b A : Bool) : Bool := cond b A false
def zb_in (t n : Nat) (A : Bool) : Bool := cond (Nat.ble (Nat.succ (Nat.mod t 4294967296)) n) A false
def zb_let (t : Nat) (f : Nat → Bool) : Bool := f t
def zb_nn (t : Nat) : Bool := Nat.ble (Nat.mod t 4294967296) 2147483647
def zb_b01 (t : Nat) : Bool := Nat.ble (Nat.mod t 4294967296) 1
def zb_eq (x y : Nat) : Bool := Nat.beq (Nat.mod x 4294967296) (Nat.mod y 4294967296)
def zb_lt (x y : Nat) : Bool := Nat.ble (Nat.succ (Nat.mod (Nat.add x 2147483648) 4294967296)) (Nat.mod (Nat.add y 2147483648) 4294967296)
def zb_le (x y : Nat) : Bool := Nat.ble (Nat.mod (Nat.add x 2147483648) 4294967296) (Nat.mod (Nat.add y 2147483648) 4294967296)
def zb_cell (a i : Nat) : Nat := Nat.mod (Nat.shiftRight a (Nat.mul 64 i)) 18446744073709551616
def zb_wr (a i v : Nat) : Nat := Nat.xor a (Nat.shiftLeft (Nat.xor (zb_cell a i) (Nat.mod v 18446744073709551616)) (Nat.mul 64 i))
def zb_cl (t : Nat) : Nat := cond (Nat.ble (Nat.mod t 4294967296) 2147483647) (Nat.mod t 4294967296) 0
def zb_rd (a t : Nat) : Nat := zb_cell a (zb_cl t)
def zb_sub (x y : Nat) : Nat := Nat.mod (Nat.add x (Nat.sub 4294967296 (Nat.mod y 4294967296))) 4294967296
def zb_bit (v x : Nat) : Nat := Nat.mod (Nat.shiftRight v (Nat.mod x 32)) 2
def zb_shl (v x : Nat) : Nat := Nat.shiftLeft v (Nat.mod x 32)
def zb_rem (x d : Nat) : Nat := Nat.mod (Nat.mod x 4294967296) d
def zb_div (x d : Nat) : Nat := Nat.div (Nat.mod x 4294967296) d
def zb_i8 (t : Nat) : Nat := cond (Nat.ble (Nat.mod t 256) 127) (Nat.mod t 256) (Nat.add (Nat.mod t 256) 4294967040)
def zb_i16 (t : Nat) : Nat := cond (Nat.ble (Nat.mod t 65536) 32767) (Nat.mod t 65536) (Nat.add (Nat.mod t 65536) 4294901760)
/-! data: v stands for (v % 2^32) + (v / 2^32) * c -/
def zb_dv (c v : Nat) : Int32 := nI (v % 4294967296) + nI (v / 4294967296) * nI c
def zb_kv (t : Nat) : Nat := Nat.mod t 4294967296
def zb_vadd (v w : Nat) : Nat := Nat.add (Nat.mul (Nat.add (Nat.div v 4294967296) (Nat.div w 4294967296)) 4294967296) (Nat.mod (Nat.add v w) 4294967296)
def zb_vsub (v t : Nat) : Nat := zb_vadd v (zb_sub 0 t)
def zb_vmul (k v : Nat) : Nat := Nat.add (Nat.mul (Nat.mul k (Nat.div v 4294967296)) 4294967296) (Nat.mod (Nat.mul k (Nat.mod v 4294967296)) 4294967296)
def zb_lo (v : Nat) : Nat := Nat.mod (Nat.add v 2147483648) 4294967296
def zb_hi (v : Nat) : Nat := Nat.add (zb_lo v) (Nat.mul (Nat.div v 4294967296) 1023)
def zb_lt3v (h1 l1 h2 l2 : Nat) : Option Bool := cond (Nat.ble 4294967296 h1) none (cond (Nat.ble 4294967296 h2) none (cond (Nat.ble (Nat.succ h1) l2) (some true) (cond (Nat.ble h2 l1) (some false) none)))
def zb_le3v (h1 l1 h2 l2 : Nat) : Option Bool := cond (Nat.ble 4294967296 h1) none (cond (Nat.ble 4294967296 h2) none (cond (Nat.ble h1 l2) (some true) (cond (Nat.ble (Nat.succ h2) l1) (some false) none)))
def zb_eq3v (h1 l1 h2 l2 : Nat) : Option Bool := cond (Nat.ble 4294967296 h1) none (cond (Nat.ble 4294967296 h2) none (cond (Nat.ble (Nat.succ h1) l2) (some false) (cond (Nat.ble (Nat.succ h2) l1) (some false) none)))
def zb_lt3 (v w : Nat) : Option Bool := zb_lt3v (zb_hi v) (zb_lo v) (zb_hi w) (zb_lo w)
def zb_le3 (v w : Nat) : Option Bool := zb_le3v (zb_hi v) (zb_lo v) (zb_hi w) (zb_lo w)
def zb_eq3q (a1 a2 b1 b2 : Nat) (o : Option Bool) : Option Bool := cond (Nat.beq a1 a2) (some (Nat.beq b1 b2)) o
def zb_eq3 (v w : Nat) : Option Bool := zb_eq3q (Nat.div v 4294967296) (Nat.div w 4294967296) (Nat.mod v 4294967296) (Nat.mod w 4294967296) (zb_eq3v (zb_hi v) (zb_lo v) (zb_hi w) (zb_lo w))
def zb_tk (t : Option Bool) (C : Prop) : Prop := match t with
  | some true => C
  | some false => ¬ C
  | none => True
def zb_ka (a : Nat) : Nat → Int32 := fun i => nI (zb_cell a i)
def zb_va (c a : Nat) : Nat → Int32 := fun i => zb_dv c (zb_cell a i)
/-! the combinators are sound -/
theorem zb_if_ok {b A B : Bool} {C PA PB : Prop} (hb : b = true ↔ C) (h : zb_if b A B = true) (ha : A = true → PA) (hB : B = true → PB) : (C → PA) ∧ (¬ C → PB) := by
  cases b with
  | true => exact ⟨fun _ => ha h, fun z => absurd (hb.mp rfl) z⟩
  | false => exact ⟨fun z => absurd (hb.mpr z) Bool.false_ne_true, fun _ => hB h⟩
theorem zb_if3_ok {t : Option Bool} {A B : Bool} {C PA PB : Prop} (ht : zb_tk t C) (h : zb_if3 t A B = true) (ha : A = true → PA) (hB : B = true → PB) : (C → PA) ∧ (¬ C → PB) := by
  match t, ht, h with
  | some true, ht, h => exact ⟨fun _ => ha h, fun z => absurd ht z⟩
  | some false, ht, h => exact ⟨fun z => absurd z ht, fun _ => hB h⟩
  | none, _, h =>
    have h2 : cond A B false = true := h
    cases A with
    | true => exact ⟨fun _ => ha rfl, fun _ => hB h2⟩
    | false => exact absurd h2 Bool.false_ne_true
theorem zb_g_ok {b A : Bool} {P : Prop} (h : zb_g b A = true) (hp : b = true → A = true → P) : P := by
  cases b with
  | true => exact hp rfl h
  | false => exact absurd (show false = true from h) Bool.false_ne_true
theorem zb_let_k {P : Int32 → Prop} {e : Int32} {t : Nat} {f : Nat → Bool} (h : zb_let t f = true) (he : e = nI t) (hp : f t = true → P (nI t)) : ∀ x, x = e → P x := by
  intro x ex
  rw [ex, he]
  exact hp h
theorem zb_let_v {P : Int32 → Prop} {e : Int32} {c t : Nat} {f : Nat → Bool} (h : zb_let t f = true) (he : e = zb_dv c t) (hp : f t = true → P (zb_dv c t)) : ∀ x, x = e → P x := by
  intro x ex
  rw [ex, he]
  exact hp h
theorem zb_let_ka {P : (Nat → Int32) → Prop} {e : Nat → Int32} {t : Nat} {f : Nat → Bool} (h : zb_let t f = true) (he : e = zb_ka t) (hp : f t = true → P (zb_ka t)) : ∀ x, x = e → P x := by
  intro x ex
  rw [ex, he]
  exact hp h
theorem zb_let_va {P : (Nat → Int32) → Prop} {e : Nat → Int32} {c t : Nat} {f : Nat → Bool} (h : zb_let t f = true) (he : e = zb_va c t) (hp : f t = true → P (zb_va c t)) : ∀ x, x = e → P x := by
  intro x ex
  rw [ex, he]
  exact hp h
theorem zb_in_ok {e : Int32} {t n : Nat} {A : Bool} {P : Prop} (he : e = nI t) (hn : n < 2147483648) (h : zb_in t n A = true) (hp : A = true → P) : vp_in e n ∧ P := by
  refine zb_g_ok (b := Nat.ble (Nat.succ (t % 4294967296)) n) (A := A) h (fun hb ha => ⟨?_, hp ha⟩)
  have h2 : t % 4294967296 < n := Nat.le_of_ble_eq_true hb
  rw [he, vp_in_iff, zb_toInt]
  omega
theorem zb_nar_ok {e : Int32} {t : Nat} {A : Bool} {P : Prop} (he : e = nI t) (h : zb_g (zb_b01 t) A = true) (hp : A = true → P) : narrow .boolean (.int e) = .int e ∧ P := by
  refine zb_g_ok h (fun hb ha => ⟨?_, hp ha⟩)
  have h2 : t % 4294967296 ≤ 1 := Nat.le_of_ble_eq_true hb
  rw [he, ← zb_nIm]
  have h3 : t % 4294967296 = 0 ∨ t % 4294967296 = 1 := by omega
  rcases h3 with h3 | h3 <;> rw [h3] <;> rfl
/-! conditions -/
theorem zb_beq {a b : Nat} : Nat.beq a b = true ↔ a = b := ⟨Nat.eq_of_beq_eq_true, fun h => by rw [h]; exact Nat.beq_refl b⟩
theorem zb_eqP {e1 e2 : Int32} {t1 t2 : Nat} (h1 : e1 = nI t1) (h2 : e2 = nI t2) : zb_eq t1 t2 = true ↔ e1 = e2 := by
  rw [h1, h2, zb_eqI]
  exact zb_beq
theorem zb_ble {a b : Nat} : Nat.ble a b = true ↔ a ≤ b := ⟨Nat.le_of_ble_eq_true, Nat.ble_eq_true_of_le⟩
theorem zb_ltP {e1 e2 : Int32} {t1 t2 : Nat} (h1 : e1 = nI t1) (h2 : e2 = nI t2) : zb_lt t1 t2 = true ↔ e1 < e2 := by
  rw [h1, h2, Int32.lt_iff_toInt_lt, zb_toInt, zb_toInt]
  refine Iff.trans zb_ble ?_
  show (t1 + 2147483648) % 4294967296 + 1 ≤ (t2 + 2147483648) % 4294967296 ↔ _
  omega
theorem zb_leP {e1 e2 : Int32} {t1 t2 : Nat} (h1 : e1 = nI t1) (h2 : e2 = nI t2) : zb_le t1 t2 = true ↔ e1 ≤ e2 := by
  rw [h1, h2, Int32.le_iff_toInt_le, zb_toInt, zb_toInt]
  refine Iff.trans zb_ble ?_
  show (t1 + 2147483648) % 4294967296 ≤ (t2 + 2147483648) % 4294967296 ↔ _
  omega
/-! arithmetic of control -/
theorem zb_addP {e1 e2 : Int32} {t1 t2 : Nat} (h1 : e1 = nI t1) (h2 : e2 = nI t2) : e1 + e2 = nI (Nat.add t1 t2) := by
  rw [h1, h2]
  exact nI_add t1 t2
theorem zb_mulP {e1 e2 : Int32} {t1 t2 : Nat} (h1 : e1 = nI t1) (h2 : e2 = nI t2) : e1 * e2 = nI (Nat.mul t1 t2) := by
  rw [h1, h2]
  exact pk_mul t1 t2
theorem zb_subI (x y : Nat) : nI x - nI y = nI (x + (4294967296 - y % 4294967296)) := by
  have h : nI (x + (4294967296 - y % 4294967296)) + nI y = nI x := by
    rw [nI_add, zb_eqI]
    omega
  rw [← h]
  grind
theorem zb_subP {e1 e2 : Int32} {t1 t2 : Nat} (h1 : e1 = nI t1) (h2 : e2 = nI t2) : e1 - e2 = nI (zb_sub t1 t2) := by
  rw [h1, h2, zb_subI]
  exact (zb_nIm _).symm
theorem zb_andI (a b : Nat) : nI a &&& nI b = nI (a &&& b) := by
  apply zb_inj
  show BitVec.ofNat 32 a &&& BitVec.ofNat 32 b = BitVec.ofNat 32 (a &&& b)
  apply BitVec.eq_of_getLsbD_eq
  intro i hi
  simp [hi]
theorem zb_orI (a b : Nat) : nI a ||| nI b = nI (a ||| b) := by
  apply zb_inj
  show BitVec.ofNat 32 a ||| BitVec.ofNat 32 b = BitVec.ofNat 32 (a ||| b)
  apply BitVec.eq_of_getLsbD_eq
  intro i hi
  simp [hi]
theorem zb_xorI (a b : Nat) : nI a ^^^ nI b = nI (a ^^^ b) := by
  apply zb_inj
  show BitVec.ofNat 32 a ^^^ BitVec.ofNat 32 b = BitVec.ofNat 32 (a ^^^ b)
  apply BitVec.eq_of_getLsbD_eq
  intro i hi
  simp [hi]
theorem zb_andP {e1 e2 : Int32} {t1 t2 : Nat} (h1 : e1 = nI t1) (h2 : e2 = nI t2) : e1 &&& e2 = nI (Nat.land t1 t2) := by
  rw [h1, h2]
  exact zb_andI t1 t2
theorem zb_orP {e1 e2 : Int32} {t1 t2 : Nat} (h1 : e1 = nI t1) (h2 : e2 = nI t2) : e1 ||| e2 = nI (Nat.lor t1 t2) := by
  rw [h1, h2]
  exact zb_orI t1 t2
theorem zb_xorP {e1 e2 : Int32} {t1 t2 : Nat} (h1 : e1 = nI t1) (h2 : e2 = nI t2) : e1 ^^^ e2 = nI (Nat.xor t1 t2) := by
  rw [h1, h2]
  exact zb_xorI t1 t2
theorem zb_sl : ∀ n, n < 32 → ((nI n).toBitVec.smod 32).toNat = n := by decide +kernel
theorem zb_31 (x : Nat) : nI x &&& 31 = nI (x % 32) := by
  show nI x &&& nI 31 = _
  rw [zb_andI, show (31 : Nat) = 2 ^ 5 - 1 from rfl, Nat.and_two_pow_sub_one_eq_mod]
theorem zb_shlP {e1 e2 : Int32} {t1 t2 : Nat} (h1 : e1 = nI t1) (h2 : e2 = nI t2) : e1 <<< (e2 &&& 31) = nI (zb_shl t1 t2) := by
  rw [h1, h2, zb_31]
  apply zb_inj
  apply BitVec.eq_of_toNat_eq
  rw [pk_shl (nI t1) (nI (t2 % 32)) (t2 % 32) (zb_sl _ (Nat.mod_lt _ (by omega)))]
  show (BitVec.ofNat 32 t1).toNat * 2 ^ (t2 % 32) % 2 ^ 32 = (BitVec.ofNat 32 (t1 <<< (t2 % 32))).toNat
  rw [BitVec.toNat_ofNat, BitVec.toNat_ofNat, Nat.shiftLeft_eq, Nat.mod_mul_mod]
theorem zb_bitP {e1 e2 : Int32} {t1 t2 : Nat} (h1 : e1 = nI t1) (h2 : e2 = nI t2) : (e1 >>> (e2 &&& 31)) &&& 1 = nI (zb_bit t1 t2) := by
  have hs : t2 % 32 < 32 := Nat.mod_lt _ (by omega)
  rw [h1, h2, zb_31]
  show _ = nI ((t1 >>> (t2 % 32)) % 2)
  generalize t2 % 32 = s at hs
  apply zb_inj
  apply BitVec.eq_of_getLsbD_eq
  intro i hi
  rw [Int32.toBitVec_and, BitVec.getLsbD_and, Int32.toBitVec_shiftRight]
  show (((nI t1).toBitVec.sshiftRight ((nI s).toBitVec.smod 32).toNat).getLsbD i && (1#32).getLsbD i) = (BitVec.ofNat 32 ((t1 >>> s) % 2)).getLsbD i
  rw [zb_sl s hs, BitVec.getLsbD_sshiftRight, zb_bv, BitVec.getLsbD_ofNat, BitVec.getLsbD_ofNat, BitVec.getLsbD_ofNat]
  have e3 : ((t1 >>> s) % 2).testBit i = (decide (i < 1) && t1.testBit (s + i)) := by
    rw [show (2 : Nat) = 2 ^ 1 from rfl, Nat.testBit_mod_two_pow, Nat.testBit_shiftRight]
  rw [e3]
  rcases Nat.eq_zero_or_pos i with h | h
  · subst h
    simp [hs]
  · have e4 : Nat.testBit 1 i = false := Nat.testBit_lt_two_pow (Nat.one_lt_two_pow (by omega))
    rw [e4, decide_eq_false (show ¬ i < 1 by omega)]
    simp
theorem zb_remP {e1 e2 : Int32} {t1 t2 : Nat} (g : zb_nn t1 = true) (h1 : e1 = nI t1) (h2 : e2 = nI t2) (hd : 0 < t2 ∧ t2 < 2147483648 := by decide) : e1 - e1 / e2 * e2 = nI (zb_rem t1 t2) := by
  have h3 : t1 % 4294967296 ≤ 2147483647 := Nat.le_of_ble_eq_true g
  rw [h1, h2, ← zb_nIm t1, pk_rem (by omega) hd.1 hd.2]
  rfl
theorem zb_divP {e1 e2 : Int32} {t1 t2 : Nat} (g : zb_nn t1 = true) (h1 : e1 = nI t1) (h2 : e2 = nI t2) (hd : 0 < t2 ∧ t2 < 2147483648 := by decide) : e1 / e2 = nI (zb_div t1 t2) := by
  have h3 : t1 % 4294967296 ≤ 2147483647 := Nat.le_of_ble_eq_true g
  rw [h1, h2, ← zb_nIm t1, pk_div (by omega) hd.1 hd.2]
  rfl
theorem zb_i8I (t : Nat) : (zb_i8 t + 2147483648) % 4294967296 = (if t % 256 ≤ 127 then t % 256 + 2147483648 else t % 256 + 4294967040 - 2147483648) := by
  have e : zb_i8 t = cond (Nat.ble (t % 256) 127) (t % 256) (t % 256 + 4294967040) := rfl
  split
  · next h => rw [e, zb_ble.mpr h]; show (t % 256 + 2147483648) % 4294967296 = _; omega
  · next h =>
    have hb : Nat.ble (t % 256) 127 = false := Bool.eq_false_iff.mpr (fun z => h (zb_ble.mp z))
    rw [e, hb]; show (t % 256 + 4294967040 + 2147483648) % 4294967296 = _; omega
theorem zb_i16I (t : Nat) : (zb_i16 t + 2147483648) % 4294967296 = (if t % 65536 ≤ 32767 then t % 65536 + 2147483648 else t % 65536 + 4294901760 - 2147483648) := by
  have e : zb_i16 t = cond (Nat.ble (t % 65536) 32767) (t % 65536) (t % 65536 + 4294901760) := rfl
  split
  · next h => rw [e, zb_ble.mpr h]; show (t % 65536 + 2147483648) % 4294967296 = _; omega
  · next h =>
    have hb : Nat.ble (t % 65536) 32767 = false := Bool.eq_false_iff.mpr (fun z => h (zb_ble.mp z))
    rw [e, hb]; show (t % 65536 + 4294901760 + 2147483648) % 4294967296 = _; omega
theorem zb_i8P {e1 : Int32} {t1 : Nat} (h1 : e1 = nI t1) : e1.toInt8.toInt32 = nI (zb_i8 t1) := by
  rw [h1]
  apply Int32.toInt_inj.mp
  rw [Int8.toInt_toInt32, Int32.toInt_toInt8, zb_toInt, zb_toInt, zb_i8I, Int.bmod_def]
  split <;> split <;> omega
theorem zb_i16P {e1 : Int32} {t1 : Nat} (h1 : e1 = nI t1) : e1.toInt16.toInt32 = nI (zb_i16 t1) := by
  rw [h1]
  apply Int32.toInt_inj.mp
  rw [Int16.toInt_toInt32, Int32.toInt_toInt16, zb_toInt, zb_toInt, zb_i16I, Int.bmod_def]
  split <;> split <;> omega
theorem zb_narP {e1 : Int32} {t1 : Nat} (h1 : e1 = nI t1) : vp_nar .byte e1 = nI (zb_i8 t1) := by
  rw [vp_nar_byte]
  exact zb_i8P h1
theorem zb_m1 : (-1 : Int32) = nI 4294967295 := by decide +kernel
theorem zb_m9999 : (-9999 : Int32) = nI 4294957297 := by decide +kernel
theorem zb_m100000 : (-100000 : Int32) = nI 4294867296 := by decide +kernel
theorem zb_m200000 : (-200000 : Int32) = nI 4294767296 := by decide +kernel
theorem zb_m300000 : (-300000 : Int32) = nI 4294667296 := by decide +kernel
/-! data -/
theorem zb_dvI (c v : Nat) : zb_dv c v = nI (v % 4294967296 + v / 4294967296 * c) := by
  unfold zb_dv
  rw [pk_mul, nI_add]
theorem zb_kvP {c : Nat} {e1 : Int32} {t1 : Nat} (h1 : e1 = nI t1) : e1 = zb_dv c (zb_kv t1) := by
  show e1 = zb_dv c (t1 % 4294967296)
  rw [h1, zb_dvI, show t1 % 4294967296 / 4294967296 = 0 by omega, Nat.zero_mul, Nat.add_zero, zb_nIm, zb_nIm]
theorem zb_vaddP {c : Nat} {e1 e2 : Int32} {t1 t2 : Nat} (h1 : e1 = zb_dv c t1) (h2 : e2 = zb_dv c t2) : e1 + e2 = zb_dv c (zb_vadd t1 t2) := by
  rw [h1, h2, zb_dvI, zb_dvI, zb_dvI, nI_add, zb_eqI]
  have e : zb_vadd t1 t2 = (t1 / 4294967296 + t2 / 4294967296) * 4294967296 + (t1 + t2) % 4294967296 := rfl
  rw [e]
  have a1 : ((t1 / 4294967296 + t2 / 4294967296) * 4294967296 + (t1 + t2) % 4294967296) / 4294967296 = t1 / 4294967296 + t2 / 4294967296 := by omega
  have a2 : ((t1 / 4294967296 + t2 / 4294967296) * 4294967296 + (t1 + t2) % 4294967296) % 4294967296 = (t1 + t2) % 4294967296 := by omega
  rw [a1, a2, Nat.add_mul]
  generalize t1 / 4294967296 * c = x
  generalize t2 / 4294967296 * c = y
  omega
theorem zb_vsubP {c : Nat} {e1 e2 : Int32} {t1 t2 : Nat} (h1 : e1 = zb_dv c t1) (h2 : e2 = nI t2) : e1 - e2 = zb_dv c (zb_vsub t1 t2) := by
  have h3 : (0 : Int32) - e2 = nI (zb_sub 0 t2) := zb_subP (rfl : (0 : Int32) = nI 0) h2
  have h4 : nI (zb_sub 0 t2) = zb_dv c (zb_sub 0 t2) := by
    have h5 := zb_kvP (c := c) (rfl : nI (zb_sub 0 t2) = nI (zb_sub 0 t2))
    have h6 : zb_kv (zb_sub 0 t2) = zb_sub 0 t2 := Nat.mod_mod _ _
    rw [h6] at h5
    exact h5
  have h7 : e1 - e2 = e1 + (0 - e2) := by grind
  rw [h7]
  exact zb_vaddP h1 (h3.trans h4)
theorem zb_vmulP {c : Nat} {e1 e2 : Int32} {t1 t2 : Nat} (h1 : e1 = nI t1) (h2 : e2 = zb_dv c t2) : e1 * e2 = zb_dv c (zb_vmul t1 t2) := by
  rw [h1, h2, zb_dvI, zb_dvI, pk_mul, zb_eqI]
  have e : zb_vmul t1 t2 = (t1 * (t2 / 4294967296)) * 4294967296 + (t1 * (t2 % 4294967296)) % 4294967296 := rfl
  rw [e, Nat.mul_add, ← Nat.mul_assoc]
  generalize t1 * (t2 / 4294967296) = x
  generalize t1 * (t2 % 4294967296) = y
  have a1 : (x * 4294967296 + y % 4294967296) / 4294967296 = x := by omega
  have a2 : (x * 4294967296 + y % 4294967296) % 4294967296 = y % 4294967296 := by omega
  rw [a1, a2]
  generalize x * c = z
  omega
theorem zb_dvT {c v : Nat} (hc : c ≤ 1023) (hv : zb_hi v < 4294967296) : ∃ n : Nat, zb_lo v ≤ n ∧ n ≤ zb_hi v ∧ (zb_dv c v).toInt = (n : Int) - 2147483648 := by
  have e1 : zb_lo v = (v + 2147483648) % 4294967296 := rfl
  have e2 : zb_hi v = zb_lo v + v / 4294967296 * 1023 := rfl
  have h1 : v / 4294967296 * c ≤ v / 4294967296 * 1023 := Nat.mul_le_mul_left _ hc
  refine ⟨zb_lo v + v / 4294967296 * c, by omega, by omega, ?_⟩
  rw [zb_dvI, zb_toInt]
  rw [e2] at hv
  generalize v / 4294967296 * c = x at h1
  generalize v / 4294967296 * 1023 = y at hv h1
  omega
theorem zb_bleF {a b : Nat} (h : ¬ a ≤ b) : Nat.ble a b = false := Bool.eq_false_iff.mpr (fun z => h (zb_ble.mp z))
theorem zb_lt3w {C : Prop} (h1 l1 h2 l2 : Nat) (hC : h1 < 4294967296 → h2 < 4294967296 → ∃ n1 n2 : Nat, l1 ≤ n1 ∧ n1 ≤ h1 ∧ l2 ≤ n2 ∧ n2 ≤ h2 ∧ (C ↔ n1 < n2)) : zb_tk (zb_lt3v h1 l1 h2 l2) C := by
  unfold zb_lt3v
  by_cases g1 : 4294967296 ≤ h1
  · rw [zb_ble.mpr g1]
    exact True.intro
  · by_cases g2 : 4294967296 ≤ h2
    · rw [zb_bleF g1, zb_ble.mpr g2]
      exact True.intro
    · obtain ⟨n1, n2, a1, b1, a2, b2, k⟩ := hC (Nat.lt_of_not_le g1) (Nat.lt_of_not_le g2)
      rw [zb_bleF g1, zb_bleF g2]
      by_cases g3 : Nat.succ h1 ≤ l2
      · rw [zb_ble.mpr g3]
        show C
        rw [k]
        omega
      · rw [zb_bleF g3]
        by_cases g4 : h2 ≤ l1
        · rw [zb_ble.mpr g4]
          show ¬ C
          rw [k]
          omega
        · rw [zb_bleF g4]
          exact True.intro
theorem zb_le3w {C : Prop} (h1 l1 h2 l2 : Nat) (hC : h1 < 4294967296 → h2 < 4294967296 → ∃ n1 n2 : Nat, l1 ≤ n1 ∧ n1 ≤ h1 ∧ l2 ≤ n2 ∧ n2 ≤ h2 ∧ (C ↔ n1 ≤ n2)) : zb_tk (zb_le3v h1 l1 h2 l2) C := by
  unfold zb_le3v
  by_cases g1 : 4294967296 ≤ h1
  · rw [zb_ble.mpr g1]
    exact True.intro
  · by_cases g2 : 4294967296 ≤ h2
    · rw [zb_bleF g1, zb_ble.mpr g2]
      exact True.intro
    · obtain ⟨n1, n2, a1, b1, a2, b2, k⟩ := hC (Nat.lt_of_not_le g1) (Nat.lt_of_not_le g2)
      rw [zb_bleF g1, zb_bleF g2]
      by_cases g3 : h1 ≤ l2
      · rw [zb_ble.mpr g3]
        show C
        rw [k]
        omega
      · rw [zb_bleF g3]
        by_cases g4 : Nat.succ h2 ≤ l1
        · rw [zb_ble.mpr g4]
          show ¬ C
          rw [k]
          omega
        · rw [zb_bleF g4]
          exact True.intro
theorem zb_eq3w {C : Prop} (h1 l1 h2 l2 : Nat) (hC : h1 < 4294967296 → h2 < 4294967296 → ∃ n1 n2 : Nat, l1 ≤ n1 ∧ n1 ≤ h1 ∧ l2 ≤ n2 ∧ n2 ≤ h2 ∧ (C ↔ n1 = n2)) : zb_tk (zb_eq3v h1 l1 h2 l2) C := by
  unfold zb_eq3v
  by_cases g1 : 4294967296 ≤ h1
  · rw [zb_ble.mpr g1]
    exact True.intro
  · by_cases g2 : 4294967296 ≤ h2
    · rw [zb_bleF g1, zb_ble.mpr g2]
      exact True.intro
    · obtain ⟨n1, n2, a1, b1, a2, b2, k⟩ := hC (Nat.lt_of_not_le g1) (Nat.lt_of_not_le g2)
      rw [zb_bleF g1, zb_bleF g2]
      by_cases g3 : Nat.succ h1 ≤ l2
      · rw [zb_ble.mpr g3]
        show ¬ C
        rw [k]
        omega
      · rw [zb_bleF g3]
        by_cases g4 : Nat.succ h2 ≤ l1
        · rw [zb_ble.mpr g4]
          show ¬ C
          rw [k]
          omega
        · rw [zb_bleF g4]
          exact True.intro
theorem zb_lt3P {c : Nat} (hc : c ≤ 1023) {e1 e2 : Int32} {t1 t2 : Nat} (h1 : e1 = zb_dv c t1) (h2 : e2 = zb_dv c t2) : zb_tk (zb_lt3 t1 t2) (e1 < e2) := by
  rw [h1, h2, Int32.lt_iff_toInt_lt]
  refine zb_lt3w _ _ _ _ (fun g1 g2 => ?_)
  obtain ⟨n1, a1, b1, k1⟩ := zb_dvT hc g1
  obtain ⟨n2, a2, b2, k2⟩ := zb_dvT hc g2
  refine ⟨n1, n2, a1, b1, a2, b2, ?_⟩
  rw [k1, k2]
  clear a1 b1 a2 b2 g1 g2
  omega
theorem zb_le3P {c : Nat} (hc : c ≤ 1023) {e1 e2 : Int32} {t1 t2 : Nat} (h1 : e1 = zb_dv c t1) (h2 : e2 = zb_dv c t2) : zb_tk (zb_le3 t1 t2) (e1 ≤ e2) := by
  rw [h1, h2, Int32.le_iff_toInt_le]
  refine zb_le3w _ _ _ _ (fun g1 g2 => ?_)
  obtain ⟨n1, a1, b1, k1⟩ := zb_dvT hc g1
  obtain ⟨n2, a2, b2, k2⟩ := zb_dvT hc g2
  refine ⟨n1, n2, a1, b1, a2, b2, ?_⟩
  rw [k1, k2]
  clear a1 b1 a2 b2 g1 g2
  omega
theorem zb_beqF {a b : Nat} (h : ¬ a = b) : Nat.beq a b = false := Bool.eq_false_iff.mpr (fun z => h (zb_beq.mp z))
theorem zb_eq3x {C : Prop} (a1 a2 b1 b2 : Nat) (o : Option Bool) (hE : a1 = a2 → (C ↔ b1 = b2)) (ho : zb_tk o C) : zb_tk (zb_eq3q a1 a2 b1 b2 o) C := by
  unfold zb_eq3q
  by_cases h : a1 = a2
  · rw [zb_beq.mpr h]
    by_cases g : b1 = b2
    · rw [zb_beq.mpr g]
      exact (hE h).mpr g
    · rw [zb_beqF g]
      exact fun z => g ((hE h).mp z)
  · rw [zb_beqF h]
    exact ho
theorem zb_eq3y {c v w : Nat} (h : v / 4294967296 = w / 4294967296) : zb_dv c v = zb_dv c w ↔ v % 4294967296 = w % 4294967296 := by
  rw [zb_dvI, zb_dvI, zb_eqI, h]
  generalize w / 4294967296 * c = x
  omega
theorem zb_eq3z {c : Nat} (hc : c ≤ 1023) (t1 t2 : Nat) : zb_tk (zb_eq3v (zb_hi t1) (zb_lo t1) (zb_hi t2) (zb_lo t2)) (zb_dv c t1 = zb_dv c t2) := by
  rw [← Int32.toInt_inj]
  refine zb_eq3w _ _ _ _ (fun g1 g2 => ?_)
  obtain ⟨n1, a1, b1, k1⟩ := zb_dvT hc g1
  obtain ⟨n2, a2, b2, k2⟩ := zb_dvT hc g2
  refine ⟨n1, n2, a1, b1, a2, b2, ?_⟩
  rw [k1, k2]
  clear a1 b1 a2 b2 g1 g2
  omega
theorem zb_eq3P {c : Nat} (hc : c ≤ 1023) {e1 e2 : Int32} {t1 t2 : Nat} (h1 : e1 = zb_dv c t1) (h2 : e2 = zb_dv c t2) : zb_tk (zb_eq3 t1 t2) (e1 = e2) := by
  rw [h1, h2]
  exact zb_eq3x _ _ _ _ _ (fun h => zb_eq3y h) (zb_eq3z hc t1 t2)
/-! arrays -/
theorem zb_clv (x y : Nat) (h1 : x ≤ 2147483647 → y = x) (h2 : ¬ x ≤ 2147483647 → y = 0) : y = cond (Nat.ble x 2147483647) x 0 := by
  by_cases g : x ≤ 2147483647
  · rw [zb_ble.mpr g]
    exact h1 g
  · rw [zb_bleF g]
    exact h2 g
theorem zb_clP {e : Int32} {t : Nat} (h : e = nI t) : e.toNatClampNeg = zb_cl t := by
  rw [h]
  show (nI t).toInt.toNat = zb_cl t
  rw [zb_toInt]
  exact zb_clv (t % 4294967296) _ (fun g => by omega) (fun g => by omega)
theorem zb_get (a i j v : Nat) : zb_cell (zb_wr a i v) j = if j = i then v % 18446744073709551616 else zb_cell a j := by
  have hd : zb_cell a i ^^^ (v % 18446744073709551616) < 2 ^ 64 := Nat.xor_lt_two_pow (Nat.mod_lt _ (by omega)) (Nat.mod_lt _ (by omega))
  have hw : zb_wr a i v = a ^^^ ((zb_cell a i ^^^ (v % 18446744073709551616)) <<< (64 * i)) := rfl
  have hr : ∀ b k, zb_cell b k = (b >>> (64 * k)) % 2 ^ 64 := fun _ _ => rfl
  rw [hw]
  generalize hD : zb_cell a i ^^^ (v % 18446744073709551616) = D at hd
  rw [hr]
  apply Nat.eq_of_testBit_eq
  intro n
  rw [Nat.testBit_mod_two_pow, Nat.testBit_shiftRight, Nat.testBit_xor, Nat.testBit_shiftLeft]
  by_cases hn : n < 64
  · by_cases hj : j = i
    · subst hj
      rw [if_pos rfl, show 64 * j + n - 64 * j = n by omega, ← hD, Nat.testBit_xor, hr, Nat.testBit_mod_two_pow, Nat.testBit_shiftRight]
      simp [hn]
    · rw [if_neg hj, hr, Nat.testBit_mod_two_pow, Nat.testBit_shiftRight]
      have h0 : (decide (64 * j + n ≥ 64 * i) && D.testBit (64 * j + n - 64 * i)) = false := by
        rcases Nat.lt_or_ge j i with h | h
        · rw [decide_eq_false (by omega)]
          rfl
        · have h2 : D.testBit (64 * j + n - 64 * i) = false := by
            apply Nat.testBit_lt_two_pow
            exact Nat.lt_of_lt_of_le hd (Nat.pow_le_pow_right (by omega) (by omega))
          rw [h2, Bool.and_false]
      rw [h0]
      simp
  · rw [decide_eq_false hn, Bool.false_and]
    split
    · symm
      apply Nat.testBit_lt_two_pow
      have h5 : v % 18446744073709551616 < 2 ^ 64 := Nat.mod_lt _ (by omega)
      have h6 : 2 ^ 64 ≤ 2 ^ n := Nat.pow_le_pow_right (by omega) (by omega)
      exact Nat.lt_of_lt_of_le h5 h6
    · rw [hr, Nat.testBit_mod_two_pow, decide_eq_false hn, Bool.false_and]
theorem zb_nI64 (v : Nat) : nI (v % 18446744073709551616) = nI v := zb_eqI.mpr (by omega)
theorem zb_dv64 (c v : Nat) : zb_dv c (v % 18446744073709551616) = zb_dv c v := by
  unfold zb_dv
  rw [show v % 18446744073709551616 % 4294967296 = v % 4294967296 by omega, show nI (v % 18446744073709551616 / 4294967296) = nI (v / 4294967296) from zb_eqI.mpr (by omega)]
theorem zb_rdK {a : Nat} {e : Int32} {t : Nat} (h : e = nI t) : zb_ka a e.toNatClampNeg = nI (zb_rd a t) := by
  rw [zb_clP h]
  rfl
theorem zb_rdV {c a : Nat} {e : Int32} {t : Nat} (h : e = nI t) : zb_va c a e.toNatClampNeg = zb_dv c (zb_rd a t) := by
  rw [zb_clP h]
  rfl
theorem zb_upnK {a i : Nat} {x : Int32} {w : Nat} (hx : x = nI w) : upd (zb_ka a) i x = zb_ka (zb_wr a i w) := by
  funext j
  show (if j = i then x else nI (zb_cell a j)) = nI (zb_cell (zb_wr a i w) j)
  rw [zb_get, hx]
  split
  · rw [zb_nI64]
  · rfl
theorem zb_upnV {c a i : Nat} {x : Int32} {w : Nat} (hx : x = zb_dv c w) : upd (zb_va c a) i x = zb_va c (zb_wr a i w) := by
  funext j
  show (if j = i then x else zb_dv c (zb_cell a j)) = zb_dv c (zb_cell (zb_wr a i w) j)
  rw [zb_get, hx]
  split
  · rw [zb_dv64]
  · rfl
theorem zb_upK {a : Nat} {e : Int32} {t : Nat} {x : Int32} {w : Nat} (h : e = nI t) (hx : x = nI w) : upd (zb_ka a) e.toNatClampNeg x = zb_ka (zb_wr a (zb_cl t) w) := by
  rw [zb_clP h]
  exact zb_upnK hx
theorem zb_upV {c a : Nat} {e : Int32} {t : Nat} {x : Int32} {w : Nat} (h : e = nI t) (hx : x = zb_dv c w) : upd (zb_va c a) e.toNatClampNeg x = zb_va c (zb_wr a (zb_cl t) w) := by
  rw [zb_clP h]
  exact zb_upnV hx
end
section
noncomputable def zq_pX_isOpen (kk : Nat → Bool) (f0_openSet f0_state f0_votes f0_heard f0_names f0_name f0_slot f0_parts f0_trouble f0_troubled f0_happened f0_commitCount f0_first f0_waiting f0_sent f0_lostCount a1 a2 a3 a4 a5 a6 a7 a8 a9 a10 a11 a12 a13 a14 a15 a16 p0 : Nat) : Bool := (zb_if (zb_lt p0 0) (kk 0) (zb_if (zb_le 4 p0) (kk 0) (zb_if (zb_eq (zb_bit f0_openSet p0) 0) (kk 0) (kk 1))))
theorem zr_pX_isOpen {c : Nat} (hc : c ≤ 1023) {post : Int32 → Prop} {kk : Nat → Bool} {f0_openSet f0_state f0_votes f0_heard f0_names f0_name f0_slot f0_parts f0_trouble f0_troubled f0_happened f0_commitCount f0_first f0_waiting f0_sent f0_lostCount a1 a2 a3 a4 a5 a6 a7 a8 a9 a10 a11 a12 a13 a14 a15 a16 p0 : Nat} {X_p0 : Int32} (e_p0 : X_p0 = nI p0) (h : zq_pX_isOpen kk f0_openSet f0_state f0_votes f0_heard f0_names f0_name f0_slot f0_parts f0_trouble f0_troubled f0_happened f0_commitCount f0_first f0_waiting f0_sent f0_lostCount a1 a2 a3 a4 a5 a6 a7 a8 a9 a10 a11 a12 a13 a14 a15 a16 p0 = true) (hk : ∀ {r_ : Nat} {R_ : Int32}, R_ = nI r_ → kk r_  = true → post R_ ) : wpX_isOpen post ((nI f0_openSet), (nI f0_state), (nI f0_votes), (nI f0_heard), (nI f0_names), (nI f0_name), (nI f0_slot), (nI f0_parts), (nI f0_trouble), (nI f0_troubled), (nI f0_happened), (nI f0_commitCount), (nI f0_first), (nI f0_waiting), (nI f0_sent), (nI f0_lostCount), (zb_va c a1), (zb_ka a2), (zb_ka a3), (zb_ka a4), (zb_ka a5), (zb_va c a6), (zb_va c a7), (zb_ka a8), (zb_ka a9), (zb_va c a10), (zb_ka a11), (zb_ka a12), (zb_ka a13), (zb_ka a14), (zb_ka a15), (zb_ka a16)) X_p0 := by
  subst e_p0
  unfold zq_pX_isOpen at h
  unfold wpX_isOpen
  refine zb_if_ok (zb_ltP rfl (rfl : (0 : Int32) = nI 0)) h ?_ ?_
  · intro h
    exact hk (rfl : (0 : Int32) = nI 0) h
  · intro h
    refine zb_if_ok (zb_leP (rfl : (4 : Int32) = nI 4) rfl) h ?_ ?_
    · intro h
      exact hk (rfl : (0 : Int32) = nI 0) h
    · intro h
      refine zb_if_ok (zb_eqP (zb_bitP rfl rfl) (rfl : (0 : Int32) = nI 0)) h ?_ ?_
      · intro h
        exact hk (rfl : (0 : Int32) = nI 0) h
      · intro h
        exact hk (rfl : (1 : Int32) = nI 1) h
noncomputable def zq_pX_isFree (kk : Nat → Bool) (f0_openSet f0_state f0_votes f0_heard f0_names f0_name f0_slot f0_parts f0_trouble f0_troubled f0_happened f0_commitCount f0_first f0_waiting f0_sent f0_lostCount a1 a2 a3 a4 a5 a6 a7 a8 a9 a10 a11 a12 a13 a14 a15 a16 p0 p1 : Nat) : Bool := (zb_in p1 12 (zb_if (zb_eq (zb_rd a8 p1) 4294967295) (kk 1) (zb_in p1 12 (zb_if (zb_eq (zb_rd a8 p1) p0) (kk 1) (kk 0)))))
theorem zr_pX_isFree {c : Nat} (hc : c ≤ 1023) {post : Int32 → Prop} {kk : Nat → Bool} {f0_openSet f0_state f0_votes f0_heard f0_names f0_name f0_slot f0_parts f0_trouble f0_troubled f0_happened f0_commitCount f0_first f0_waiting f0_sent f0_lostCount a1 a2 a3 a4 a5 a6 a7 a8 a9 a10 a11 a12 a13 a14 a15 a16 p0 p1 : Nat} {X_p0 : Int32} (e_p0 : X_p0 = nI p0) {X_p1 : Int32} (e_p1 : X_p1 = nI p1) (h : zq_pX_isFree kk f0_openSet f0_state f0_votes f0_heard f0_names f0_name f0_slot f0_parts f0_trouble f0_troubled f0_happened f0_commitCount f0_first f0_waiting f0_sent f0_lostCount a1 a2 a3 a4 a5 a6 a7 a8 a9 a10 a11 a12 a13 a14 a15 a16 p0 p1 = true) (hk : ∀ {r_ : Nat} {R_ : Int32}, R_ = nI r_ → kk r_  = true → post R_ ) : wpX_isFree post ((nI f0_openSet), (nI f0_state), (nI f0_votes), (nI f0_heard), (nI f0_names), (nI f0_name), (nI f0_slot), (nI f0_parts), (nI f0_trouble), (nI f0_troubled), (nI f0_happened), (nI f0_commitCount), (nI f0_first), (nI f0_waiting), (nI f0_sent), (nI f0_lostCount), (zb_va c a1), (zb_ka a2), (zb_ka a3), (zb_ka a4), (zb_ka a5), (zb_va c a6), (zb_va c a7), (zb_ka a8), (zb_ka a9), (zb_va c a10), (zb_ka a11), (zb_ka a12), (zb_ka a13), (zb_ka a14), (zb_ka a15), (zb_ka a16)) X_p0 X_p1 := by
  subst e_p0
  subst e_p1
  unfold zq_pX_isFree at h
  unfold wpX_isFree
  refine zb_in_ok rfl (by decide) h ?_
  intro h
  refine zb_if_ok (zb_eqP (zb_rdK rfl) zb_m1) h ?_ ?_
  · intro h
    exact hk (rfl : (1 : Int32) = nI 1) h
  · intro h
    refine zb_in_ok rfl (by decide) h ?_
    intro h
    refine zb_if_ok (zb_eqP (zb_rdK rfl) rfl) h ?_ ?_
    · intro h
      exact hk (rfl : (1 : Int32) = nI 1) h
    · intro h
      exact hk (rfl : (0 : Int32) = nI 0) h
noncomputable def zq_pX_hasWritten (kk : Nat → Bool) (f0_openSet f0_state f0_votes f0_heard f0_names f0_name f0_slot f0_parts f0_trouble f0_troubled f0_happened f0_commitCount f0_first f0_waiting f0_sent f0_lostCount a1 a2 a3 a4 a5 a6 a7 a8 a9 a10 a11 a12 a13 a14 a15 a16 p0 p1 : Nat) : Bool := (zb_in p0 4 (zb_if (zb_eq (zb_bit (zb_rd a9 p0) p1) 0) (kk 0) (kk 1)))
theorem zr_pX_hasWritten {c : Nat} (hc : c ≤ 1023) {post : Int32 → Prop} {kk : Nat → Bool} {f0_openSet f0_state f0_votes f0_heard f0_names f0_name f0_slot f0_parts f0_trouble f0_troubled f0_happened f0_commitCount f0_first f0_waiting f0_sent f0_lostCount a1 a2 a3 a4 a5 a6 a7 a8 a9 a10 a11 a12 a13 a14 a15 a16 p0 p1 : Nat} {X_p0 : Int32} (e_p0 : X_p0 = nI p0) {X_p1 : Int32} (e_p1 : X_p1 = nI p1) (h : zq_pX_hasWritten kk f0_openSet f0_state f0_votes f0_heard f0_names f0_name f0_slot f0_parts f0_trouble f0_troubled f0_happened f0_commitCount f0_first f0_waiting f0_sent f0_lostCount a1 a2 a3 a4 a5 a6 a7 a8 a9 a10 a11 a12 a13 a14 a15 a16 p0 p1 = true) (hk : ∀ {r_ : Nat} {R_ : Int32}, R_ = nI r_ → kk r_  = true → post R_ ) : wpX_hasWritten post ((nI f0_openSet), (nI f0_state), (nI f0_votes), (nI f0_heard), (nI f0_names), (nI f0_name), (nI f0_slot), (nI f0_parts), (nI f0_trouble), (nI f0_troubled), (nI f0_happened), (nI f0_commitCount), (nI f0_first), (nI f0_waiting), (nI f0_sent), (nI f0_lostCount), (zb_va c a1), (zb_ka a2), (zb_ka a3), (zb_ka a4), (zb_ka a5), (zb_va c a6), (zb_va c a7), (zb_ka a8), (zb_ka a9), (zb_va c a10), (zb_ka a11), (zb_ka a12), (zb_ka a13), (zb_ka a14), (zb_ka a15), (zb_ka a16)) X_p0 X_p1 := by
  subst e_p0
  subst e_p1
  unfold zq_pX_hasWritten at h
  unfold wpX_hasWritten
  refine zb_in_ok rfl (by decide) h ?_
  intro h
  refine zb_if_ok (zb_eqP (zb_bitP (zb_rdK rfl) rfl) (rfl : (0 : Int32) = nI 0)) h ?_ ?_
  · intro h
    exact hk (rfl : (0 : Int32) = nI 0) h
  · intro h
    exact hk (rfl : (1 : Int32) = nI 1) h
noncomputable def zq_pX_seen (kk : Nat → Bool) (f0_openSet f0_state f0_votes f0_heard f0_names f0_name f0_slot f0_parts f0_trouble f0_troubled f0_happened f0_commitCount f0_first f0_waiting f0_sent f0_lostCount a1 a2 a3 a4 a5 a6 a7 a8 a9 a10 a11 a12 a13 a14 a15 a16 p0 p1 : Nat) : Bool := (zq_pX_hasWritten (fun r_1 => (zb_if (zb_eq r_1 0) (zb_in p1 12 (kk (zb_rd a7 p1))) (zb_in (Nat.add (Nat.mul p0 12) p1) 48 (kk (zb_rd a10 (Nat.add (Nat.mul p0 12) p1)))))) f0_openSet f0_state f0_votes f0_heard f0_names f0_name f0_slot f0_parts f0_trouble f0_troubled f0_happened f0_commitCount f0_first f0_waiting f0_sent f0_lostCount a1 a2 a3 a4 a5 a6 a7 a8 a9 a10 a11 a12 a13 a14 a15 a16 p0 p1)
theorem zr_pX_seen {c : Nat} (hc : c ≤ 1023) {post : Int32 → Prop} {kk : Nat → Bool} {f0_openSet f0_state f0_votes f0_heard f0_names f0_name f0_slot f0_parts f0_trouble f0_troubled f0_happened f0_commitCount f0_first f0_waiting f0_sent f0_lostCount a1 a2 a3 a4 a5 a6 a7 a8 a9 a10 a11 a12 a13 a14 a15 a16 p0 p1 : Nat} {X_p0 : Int32} (e_p0 : X_p0 = nI p0) {X_p1 : Int32} (e_p1 : X_p1 = nI p1) (h : zq_pX_seen kk f0_openSet f0_state f0_votes f0_heard f0_names f0_name f0_slot f0_parts f0_trouble f0_troubled f0_happened f0_commitCount f0_first f0_waiting f0_sent f0_lostCount a1 a2 a3 a4 a5 a6 a7 a8 a9 a10 a11 a12 a13 a14 a15 a16 p0 p1 = true) (hk : ∀ {r_ : Nat} {R_ : Int32}, R_ = zb_dv c r_ → kk r_  = true → post R_ ) : wpX_seen post ((nI f0_openSet), (nI f0_state), (nI f0_votes), (nI f0_heard), (nI f0_names), (nI f0_name), (nI f0_slot), (nI f0_parts), (nI f0_trouble), (nI f0_troubled), (nI f0_happened), (nI f0_commitCount), (nI f0_first), (nI f0_waiting), (nI f0_sent), (nI f0_lostCount), (zb_va c a1), (zb_ka a2), (zb_ka a3), (zb_ka a4), (zb_ka a5), (zb_va c a6), (zb_va c a7), (zb_ka a8), (zb_ka a9), (zb_va c a10), (zb_ka a11), (zb_ka a12), (zb_ka a13), (zb_ka a14), (zb_ka a15), (zb_ka a16)) X_p0 X_p1 := by
  subst e_p0
  subst e_p1
  unfold zq_pX_seen at h
  unfold wpX_seen
  refine zr_pX_hasWritten hc rfl rfl h ?_
  intro r_1 R_ eR_ h
  subst eR_
  refine zb_if_ok (zb_eqP rfl (rfl : (0 : Int32) = nI 0)) h ?_ ?_
  · intro h
    refine zb_in_ok rfl (by decide) h ?_
    intro h
    exact hk (zb_rdV rfl) h
  · intro h
    refine zb_in_ok (zb_addP (zb_mulP rfl (rfl : (12 : Int32) = nI 12)) rfl) (by decide) h ?_
    intro h
    exact hk (zb_rdV (zb_addP (zb_mulP rfl (rfl : (12 : Int32) = nI 12)) rfl)) h
noncomputable def zq_pX_isNumber (kk : Nat → Bool) (p0 : Nat) : Bool := (zb_if3 (zb_lt3 p0 (zb_kv 4294957297)) (kk 0) (zb_if3 (zb_lt3 (zb_kv 9999) p0) (kk 0) (kk 1)))
theorem zr_pX_isNumber {c : Nat} (hc : c ≤ 1023) {post : Int32 → Prop} {kk : Nat → Bool} {p0 : Nat} {X_p0 : Int32} (e_p0 : X_p0 = zb_dv c p0) (h : zq_pX_isNumber kk p0 = true) (hk : ∀ {r_ : Nat} {R_ : Int32}, R_ = nI r_ → kk r_  = true → post R_ ) : wpX_isNumber post () X_p0 := by
  subst e_p0
  unfold zq_pX_isNumber at h
  unfold wpX_isNumber
  refine zb_if3_ok (zb_lt3P hc rfl (zb_kvP zb_m9999)) h ?_ ?_
  · intro h
    exact hk (rfl : (0 : Int32) = nI 0) h
  · intro h
    refine zb_if3_ok (zb_lt3P hc (zb_kvP (rfl : (9999 : Int32) = nI 9999)) rfl) h ?_ ?_
    · intro h
      exact hk (rfl : (0 : Int32) = nI 0) h
    · intro h
      exact hk (rfl : (1 : Int32) = nI 1) h
noncomputable def zq_pX_writeKey (kk : Nat → Nat → Nat → Nat → Nat → Nat → Nat → Nat → Nat → Nat → Nat → Nat → Nat → Nat → Nat → Nat → Nat → Nat → Nat → Nat → Nat → Nat → Nat → Nat → Nat → Nat → Nat → Nat → Nat → Nat → Nat → Nat → Bool) (f0_openSet f0_state f0_votes f0_heard f0_names f0_name f0_slot f0_parts f0_trouble f0_troubled f0_happened f0_commitCount f0_first f0_waiting f0_sent f0_lostCount a1 a2 a3 a4 a5 a6 a7 a8 a9 a10 a11 a12 a13 a14 a15 a16 p0 p1 p2 : Nat) : Bool := (zb_in p1 12 (zb_let (zb_wr a8 (zb_cl p1) (zb_i8 p0)) (fun a8_2 => (zb_in p0 4 (zb_in p0 4 (zb_let (zb_wr a9 (zb_cl p0) (zb_i16 (Nat.lor (zb_rd a9 p0) (zb_shl 1 p1)))) (fun a9_5 => (zb_in (Nat.add (Nat.mul p0 12) p1) 48 (zb_let (zb_wr a10 (zb_cl (Nat.add (Nat.mul p0 12) p1)) p2) (fun a10_7 => (kk f0_openSet f0_state f0_votes f0_heard f0_names f0_name f0_slot f0_parts f0_trouble f0_troubled f0_happened f0_commitCount f0_first f0_waiting f0_sent f0_lostCount a1 a2 a3 a4 a5 a6 a7 a8_2 a9_5 a10_7 a11 a12 a13 a14 a15 a16)))))))))))
theorem zr_pX_writeKey {c : Nat} (hc : c ≤ 1023) {post : St2 → Prop} {kk : Nat → Nat → Nat → Nat → Nat → Nat → Nat → Nat → Nat → Nat → Nat → Nat → Nat → Nat → Nat → Nat → Nat → Nat → Nat → Nat → Nat → Nat → Nat → Nat → Nat → Nat → Nat → Nat → Nat → Nat → Nat → Nat → Bool} {f0_openSet f0_state f0_votes f0_heard f0_names f0_name f0_slot f0_parts f0_trouble f0_troubled f0_happened f0_commitCount f0_first f0_waiting f0_sent f0_lostCount a1 a2 a3 a4 a5 a6 a7 a8 a9 a10 a11 a12 a13 a14 a15 a16 p0 p1 p2 : Nat} {X_p0 : Int32} (e_p0 : X_p0 = nI p0) {X_p1 : Int32} (e_p1 : X_p1 = nI p1) {X_p2 : Int32} (e_p2 : X_p2 = zb_dv c p2) (h : zq_pX_writeKey kk f0_openSet f0_state f0_votes f0_heard f0_names f0_name f0_slot f0_parts f0_trouble f0_troubled f0_happened f0_commitCount f0_first f0_waiting f0_sent f0_lostCount a1 a2 a3 a4 a5 a6 a7 a8 a9 a10 a11 a12 a13 a14 a15 a16 p0 p1 p2 = true) (hk : ∀ {f1 f2 f3 f4 f5 f6 f7 f8 f9 f10 f11 f12 f13 f14 f15 f16 b1 b2 b3 b4 b5 b6 b7 b8 b9 b10 b11 b12 b13 b14 b15 b16 : Nat}, kk f1 f2 f3 f4 f5 f6 f7 f8 f9 f10 f11 f12 f13 f14 f15 f16 b1 b2 b3 b4 b5 b6 b7 b8 b9 b10 b11 b12 b13 b14 b15 b16 = true → post ((nI f1), (nI f2), (nI f3), (nI f4), (nI f5), (nI f6), (nI f7), (nI f8), (nI f9), (nI f10), (nI f11), (nI f12), (nI f13), (nI f14), (nI f15), (nI f16), (zb_va c b1), (zb_ka b2), (zb_ka b3), (zb_ka b4), (zb_ka b5), (zb_va c b6), (zb_va c b7), (zb_ka b8), (zb_ka b9), (zb_va c b10), (zb_ka b11), (zb_ka b12), (zb_ka b13), (zb_ka b14), (zb_ka b15), (zb_ka b16))) : wpX_writeKey post ((nI f0_openSet), (nI f0_state), (nI f0_votes), (nI f0_heard), (nI f0_names), (nI f0_name), (nI f0_slot), (nI f0_parts), (nI f0_trouble), (nI f0_troubled), (nI f0_happened), (nI f0_commitCount), (nI f0_first), (nI f0_waiting), (nI f0_sent), (nI f0_lostCount), (zb_va c a1), (zb_ka a2), (zb_ka a3), (zb_ka a4), (zb_ka a5), (zb_va c a6), (zb_va c a7), (zb_ka a8), (zb_ka a9), (zb_va c a10), (zb_ka a11), (zb_ka a12), (zb_ka a13), (zb_ka a14), (zb_ka a15), (zb_ka a16)) X_p0 X_p1 X_p2 := by
  subst e_p0
  subst e_p1
  subst e_p2
  unfold zq_pX_writeKey at h
  unfold wpX_writeKey
  refine zb_in_ok rfl (by decide) h ?_
  intro h
  refine zb_let_ka h (zb_upK rfl (zb_i8P rfl)) ?_
  intro h
  refine zb_in_ok rfl (by decide) h ?_
  intro h
  refine zb_in_ok rfl (by decide) h ?_
  intro h
  refine zb_let_ka h (zb_upK rfl (zb_i16P (zb_orP (zb_rdK rfl) (zb_shlP (rfl : (1 : Int32) = nI 1) rfl)))) ?_
  intro h
  refine zb_in_ok (zb_addP (zb_mulP rfl (rfl : (12 : Int32) = nI 12)) rfl) (by decide) h ?_
  intro h
  refine zb_let_va h (zb_upV (zb_addP (zb_mulP rfl (rfl : (12 : Int32) = nI 12)) rfl) rfl) ?_
  intro h
  exact hk h
noncomputable def zq_pX_move (kk : Nat → Nat → Nat → Nat → Nat → Nat → Nat → Nat → Nat → Nat → Nat → Nat → Nat → Nat → Nat → Nat → Nat → Nat → Nat → Nat → Nat → Nat → Nat → Nat → Nat → Nat → Nat → Nat → Nat → Nat → Nat → Nat → Nat → Bool) (f0_openSet f0_state f0_votes f0_heard f0_names f0_name f0_slot f0_parts f0_trouble f0_troubled f0_happened f0_commitCount f0_first f0_waiting f0_sent f0_lostCount a1 a2 a3 a4 a5 a6 a7 a8 a9 a10 a11 a12 a13 a14 a15 a16 p0 p1 p2 : Nat) : Bool := (zq_pX_isOpen (fun r_1 => (zb_if (zb_eq r_1 0) (kk (zb_kv 4294867296) f0_openSet f0_state f0_votes f0_heard f0_names f0_name f0_slot f0_parts f0_trouble f0_troubled f0_happened f0_commitCount f0_first f0_waiting f0_sent f0_lostCount a1 a2 a3 a4 a5 a6 a7 a8 a9 a10 a11 a12 a13 a14 a15 a16) (zb_if (zb_lt p1 0) (kk (zb_kv 4294867296) f0_openSet f0_state f0_votes f0_heard f0_names f0_name f0_slot f0_parts f0_trouble f0_troubled f0_happened f0_commitCount f0_first f0_waiting f0_sent f0_lostCount a1 a2 a3 a4 a5 a6 a7 a8 a9 a10 a11 a12 a13 a14 a15 a16) (zb_if (zb_le 144 p1) (kk (zb_kv 4294867296) f0_openSet f0_state f0_votes f0_heard f0_names f0_name f0_slot f0_parts f0_trouble f0_troubled f0_happened f0_commitCount f0_first f0_waiting f0_sent f0_lostCount a1 a2 a3 a4 a5 a6 a7 a8 a9 a10 a11 a12 a13 a14 a15 a16) (zb_g (zb_nn p1) (zb_if (zb_eq (zb_rem p1 12) (zb_div p1 12)) (kk (zb_kv 4294867296) f0_openSet f0_state f0_votes f0_heard f0_names f0_name f0_slot f0_parts f0_trouble f0_troubled f0_happened f0_commitCount f0_first f0_waiting f0_sent f0_lostCount a1 a2 a3 a4 a5 a6 a7 a8 a9 a10 a11 a12 a13 a14 a15 a16) (zb_if (zb_lt p2 0) (kk (zb_kv 4294867296) f0_openSet f0_state f0_votes f0_heard f0_names f0_name f0_slot f0_parts f0_trouble f0_troubled f0_happened f0_commitCount f0_first f0_waiting f0_sent f0_lostCount a1 a2 a3 a4 a5 a6 a7 a8 a9 a10 a11 a12 a13 a14 a15 a16) (zb_if (zb_le p2 9999) (zb_g (zb_nn p1) (zb_let (zb_rem p1 12) (fun x4_11 => (zb_g (zb_nn p1) (zb_let (zb_div p1 12) (fun x5_13 => (zq_pX_isFree (fun r_14 => (zb_if (zb_eq r_14 0) (kk (zb_kv 4294667296) f0_openSet f0_state f0_votes f0_heard f0_names f0_name f0_slot f0_parts f0_trouble f0_troubled f0_happened f0_commitCount f0_first f0_waiting f0_sent f0_lostCount a1 a2 a3 a4 a5 a6 a7 a8 a9 a10 a11 a12 a13 a14 a15 a16) (zq_pX_isFree (fun r_16 => (zb_if (zb_eq r_16 0) (kk (zb_kv 4294667296) f0_openSet f0_state f0_votes f0_heard f0_names f0_name f0_slot f0_parts f0_trouble f0_troubled f0_happened f0_commitCount f0_first f0_waiting f0_sent f0_lostCount a1 a2 a3 a4 a5 a6 a7 a8 a9 a10 a11 a12 a13 a14 a15 a16) (zq_pX_seen (fun r_18 => (zb_let (zb_vsub r_18 p2) (fun x6_19 => (zq_pX_seen (fun r_20 => (zb_let (zb_vadd r_20 (zb_kv p2)) (fun x7_21 => (zq_pX_isNumber (fun r_22 => (zb_if (zb_eq r_22 0) (kk (zb_kv 4294767296) f0_openSet f0_state f0_votes f0_heard f0_names f0_name f0_slot f0_parts f0_trouble f0_troubled f0_happened f0_commitCount f0_first f0_waiting f0_sent f0_lostCount a1 a2 a3 a4 a5 a6 a7 a8 a9 a10 a11 a12 a13 a14 a15 a16) (zq_pX_isNumber (fun r_24 => (zb_if (zb_eq r_24 0) (kk (zb_kv 4294767296) f0_openSet f0_state f0_votes f0_heard f0_names f0_name f0_slot f0_parts f0_trouble f0_troubled f0_happened f0_commitCount f0_first f0_waiting f0_sent f0_lostCount a1 a2 a3 a4 a5 a6 a7 a8 a9 a10 a11 a12 a13 a14 a15 a16) (zq_pX_writeKey (fun f0_openSet_27 f0_state_28 f0_votes_29 f0_heard_30 f0_names_31 f0_name_32 f0_slot_33 f0_parts_34 f0_trouble_35 f0_troubled_36 f0_happened_37 f0_commitCount_38 f0_first_39 f0_waiting_40 f0_sent_41 f0_lostCount_42 am1261_45 am1262_48 am1263_51 am1264_54 am1265_57 am1266_60 am1267_63 am1268_66 am1269_69 am12610_72 am12611_75 am12612_78 am12613_81 am12614_84 am12615_87 am12616_90 => (zq_pX_writeKey (fun f0_openSet_92 f0_state_93 f0_votes_94 f0_heard_95 f0_names_96 f0_name_97 f0_slot_98 f0_parts_99 f0_trouble_100 f0_troubled_101 f0_happened_102 f0_commitCount_103 f0_first_104 f0_waiting_105 f0_sent_106 f0_lostCount_107 am1351_110 am1352_113 am1353_116 am1354_119 am1355_122 am1356_125 am1357_128 am1358_131 am1359_134 am13510_137 am13511_140 am13512_143 am13513_146 am13514_149 am13515_152 am13516_155 => (kk x6_19 f0_openSet_92 f0_state_93 f0_votes_94 f0_heard_95 f0_names_96 f0_name_97 f0_slot_98 f0_parts_99 f0_trouble_100 f0_troubled_101 f0_happened_102 f0_commitCount_103 f0_first_104 f0_waiting_105 f0_sent_106 f0_lostCount_107 am1351_110 am1352_113 am1353_116 am1354_119 am1355_122 am1356_125 am1357_128 am1358_131 am1359_134 am13510_137 am13511_140 am13512_143 am13513_146 am13514_149 am13515_152 am13516_155)) f0_openSet_27 f0_state_28 f0_votes_29 f0_heard_30 f0_names_31 f0_name_32 f0_slot_33 f0_parts_34 f0_trouble_35 f0_troubled_36 f0_happened_37 f0_commitCount_38 f0_first_39 f0_waiting_40 f0_sent_41 f0_lostCount_42 am1261_45 am1262_48 am1263_51 am1264_54 am1265_57 am1266_60 am1267_63 am1268_66 am1269_69 am12610_72 am12611_75 am12612_78 am12613_81 am12614_84 am12615_87 am12616_90 p0 x5_13 x7_21)) f0_openSet f0_state f0_votes f0_heard f0_names f0_name f0_slot f0_parts f0_trouble f0_troubled f0_happened f0_commitCount f0_first f0_waiting f0_sent f0_lostCount a1 a2 a3 a4 a5 a6 a7 a8 a9 a10 a11 a12 a13 a14 a15 a16 p0 x4_11 x6_19))) x7_21))) x6_19)))) f0_openSet f0_state f0_votes f0_heard f0_names f0_name f0_slot f0_parts f0_trouble f0_troubled f0_happened f0_commitCount f0_first f0_waiting f0_sent f0_lostCount a1 a2 a3 a4 a5 a6 a7 a8 a9 a10 a11 a12 a13 a14 a15 a16 p0 x5_13)))) f0_openSet f0_state f0_votes f0_heard f0_names f0_name f0_slot f0_parts f0_trouble f0_troubled f0_happened f0_commitCount f0_first f0_waiting f0_sent f0_lostCount a1 a2 a3 a4 a5 a6 a7 a8 a9 a10 a11 a12 a13 a14 a15 a16 p0 x4_11))) f0_openSet f0_state f0_votes f0_heard f0_names f0_name f0_slot f0_parts f0_trouble f0_troubled f0_happened f0_commitCount f0_first f0_waiting f0_sent f0_lostCount a1 a2 a3 a4 a5 a6 a7 a8 a9 a10 a11 a12 a13 a14 a15 a16 p0 x5_13))) f0_openSet f0_state f0_votes f0_heard f0_names f0_name f0_slot f0_parts f0_trouble f0_troubled f0_happened f0_commitCount f0_first f0_waiting f0_sent f0_lostCount a1 a2 a3 a4 a5 a6 a7 a8 a9 a10 a11 a12 a13 a14 a15 a16 p0 x4_11))))))) (kk (zb_kv 4294867296) f0_openSet f0_state f0_votes f0_heard f0_names f0_name f0_slot f0_parts f0_trouble f0_troubled f0_happened f0_commitCount f0_first f0_waiting f0_sent f0_lostCount a1 a2 a3 a4 a5 a6 a7 a8 a9 a10 a11 a12 a13 a14 a15 a16))))))))) f0_openSet f0_state f0_votes f0_heard f0_names f0_name f0_slot f0_parts f0_trouble f0_troubled f0_happened f0_commitCount f0_first f0_waiting f0_sent f0_lostCount a1 a2 a3 a4 a5 a6 a7 a8 a9 a10 a11 a12 a13 a14 a15 a16 p0)
theorem zr_pX_move {c : Nat} (hc : c ≤ 1023) {post : Int32 → St2 → Prop} {kk : Nat → Nat → Nat → Nat → Nat → Nat → Nat → Nat → Nat → Nat → Nat → Nat → Nat → Nat → Nat → Nat → Nat → Nat → Nat → Nat → Nat → Nat → Nat → Nat → Nat → Nat → Nat → Nat → Nat → Nat → Nat → Nat → Nat → Bool} {f0_openSet f0_state f0_votes f0_heard f0_names f0_name f0_slot f0_parts f0_trouble f0_troubled f0_happened f0_commitCount f0_first f0_waiting f0_sent f0_lostCount a1 a2 a3 a4 a5 a6 a7 a8 a9 a10 a11 a12 a13 a14 a15 a16 p0 p1 p2 : Nat} {X_p0 : Int32} (e_p0 : X_p0 = nI p0) {X_p1 : Int32} (e_p1 : X_p1 = nI p1) {X_p2 : Int32} (e_p2 : X_p2 = nI p2) (h : zq_pX_move kk f0_openSet f0_state f0_votes f0_heard f0_names f0_name f0_slot f0_parts f0_trouble f0_troubled f0_happened f0_commitCount f0_first f0_waiting f0_sent f0_lostCount a1 a2 a3 a4 a5 a6 a7 a8 a9 a10 a11 a12 a13 a14 a15 a16 p0 p1 p2 = true) (hk : ∀ {r_ : Nat} {R_ : Int32}, R_ = zb_dv c r_ → ∀ {f1 f2 f3 f4 f5 f6 f7 f8 f9 f10 f11 f12 f13 f14 f15 f16 b1 b2 b3 b4 b5 b6 b7 b8 b9 b10 b11 b12 b13 b14 b15 b16 : Nat}, kk r_ f1 f2 f3 f4 f5 f6 f7 f8 f9 f10 f11 f12 f13 f14 f15 f16 b1 b2 b3 b4 b5 b6 b7 b8 b9 b10 b11 b12 b13 b14 b15 b16 = true → post R_ ((nI f1), (nI f2), (nI f3), (nI f4), (nI f5), (nI f6), (nI f7), (nI f8), (nI f9), (nI f10), (nI f11), (nI f12), (nI f13), (nI f14), (nI f15), (nI f16), (zb_va c b1), (zb_ka b2), (zb_ka b3), (zb_ka b4), (zb_ka b5), (zb_va c b6), (zb_va c b7), (zb_ka b8), (zb_ka b9), (zb_va c b10), (zb_ka b11), (zb_ka b12), (zb_ka b13), (zb_ka b14), (zb_ka b15), (zb_ka b16))) : wpX_move post ((nI f0_openSet), (nI f0_state), (nI f0_votes), (nI f0_heard), (nI f0_names), (nI f0_name), (nI f0_slot), (nI f0_parts), (nI f0_trouble), (nI f0_troubled), (nI f0_happened), (nI f0_commitCount), (nI f0_first), (nI f0_waiting), (nI f0_sent), (nI f0_lostCount), (zb_va c a1), (zb_ka a2), (zb_ka a3), (zb_ka a4), (zb_ka a5), (zb_va c a6), (zb_va c a7), (zb_ka a8), (zb_ka a9), (zb_va c a10), (zb_ka a11), (zb_ka a12), (zb_ka a13), (zb_ka a14), (zb_ka a15), (zb_ka a16)) X_p0 X_p1 X_p2 := by
  subst e_p0
  subst e_p1
  subst e_p2
  unfold zq_pX_move at h
  unfold wpX_move
  refine zr_pX_isOpen hc rfl h ?_
  intro r_1 R_ eR_ h
  subst eR_
  refine zb_if_ok (zb_eqP rfl (rfl : (0 : Int32) = nI 0)) h ?_ ?_
  · intro h
    exact hk (zb_kvP zb_m100000) h
  · intro h
    refine zb_if_ok (zb_ltP rfl (rfl : (0 : Int32) = nI 0)) h ?_ ?_
    · intro h
      exact hk (zb_kvP zb_m100000) h
    · intro h
      refine zb_if_ok (zb_leP (rfl : (144 : Int32) = nI 144) rfl) h ?_ ?_
      · intro h
        exact hk (zb_kvP zb_m100000) h
      · intro h
        refine ⟨by decide, ?_⟩
        refine ⟨by decide, ?_⟩
        refine zb_g_ok h ?_
        intro g1 h
        refine zb_if_ok (zb_eqP (zb_remP g1 rfl (rfl : (12 : Int32) = nI 12)) (zb_divP g1 rfl (rfl : (12 : Int32) = nI 12))) h ?_ ?_
        · intro h
          exact hk (zb_kvP zb_m100000) h
        · intro h
          refine zb_if_ok (zb_ltP rfl (rfl : (0 : Int32) = nI 0)) h ?_ ?_
          · intro h
            exact hk (zb_kvP zb_m100000) h
          · intro h
            refine zb_if_ok (zb_leP rfl (rfl : (9999 : Int32) = nI 9999)) h ?_ ?_
            · intro h
              refine ⟨by decide, ?_⟩
              refine zb_g_ok h ?_
              intro g2 h
              refine zb_let_k h (zb_remP g2 rfl (rfl : (12 : Int32) = nI 12)) ?_
              intro h
              refine ⟨by decide, ?_⟩
              refine zb_g_ok h ?_
              intro g2 h
              refine zb_let_k h (zb_divP g2 rfl (rfl : (12 : Int32) = nI 12)) ?_
              intro h
              refine zr_pX_isFree hc rfl rfl h ?_
              intro r_14 R_ eR_ h
              subst eR_
              refine zb_if_ok (zb_eqP rfl (rfl : (0 : Int32) = nI 0)) h ?_ ?_
              · intro h
                exact hk (zb_kvP zb_m300000) h
              · intro h
                refine zr_pX_isFree hc rfl rfl h ?_
                intro r_16 R_ eR_ h
                subst eR_
                refine zb_if_ok (zb_eqP rfl (rfl : (0 : Int32) = nI 0)) h ?_ ?_
                · intro h
                  exact hk (zb_kvP zb_m300000) h
                · intro h
                  refine zr_pX_seen hc rfl rfl h ?_
                  intro r_18 R_ eR_ h
                  subst eR_
                  refine zb_let_v h (zb_vsubP rfl rfl) ?_
                  intro h
                  refine zr_pX_seen hc rfl rfl h ?_
                  intro r_20 R_ eR_ h
                  subst eR_
                  refine zb_let_v h (zb_vaddP rfl (zb_kvP rfl)) ?_
                  intro h
                  refine zr_pX_isNumber hc rfl h ?_
                  intro r_22 R_ eR_ h
                  subst eR_
                  refine zb_if_ok (zb_eqP rfl (rfl : (0 : Int32) = nI 0)) h ?_ ?_
                  · intro h
                    exact hk (zb_kvP zb_m200000) h
                  · intro h
                    refine zr_pX_isNumber hc rfl h ?_
                    intro r_24 R_ eR_ h
                    subst eR_
                    refine zb_if_ok (zb_eqP rfl (rfl : (0 : Int32) = nI 0)) h ?_ ?_
                    · intro h
                      exact hk (zb_kvP zb_m200000) h
                    · intro h
                      refine zr_pX_writeKey hc rfl rfl rfl h ?_
                      intro f0_openSet_27 f0_state_28 f0_votes_29 f0_heard_30 f0_names_31 f0_name_32 f0_slot_33 f0_parts_34 f0_trouble_35 f0_troubled_36 f0_happened_37 f0_commitCount_38 f0_first_39 f0_waiting_40 f0_sent_41 f0_lostCount_42 am1261_45 am1262_48 am1263_51 am1264_54 am1265_57 am1266_60 am1267_63 am1268_66 am1269_69 am12610_72 am12611_75 am12612_78 am12613_81 am12614_84 am12615_87 am12616_90 h
                      refine zr_pX_writeKey hc rfl rfl rfl h ?_
                      intro f0_openSet_92 f0_state_93 f0_votes_94 f0_heard_95 f0_names_96 f0_name_97 f0_slot_98 f0_parts_99 f0_trouble_100 f0_troubled_101 f0_happened_102 f0_commitCount_103 f0_first_104 f0_waiting_105 f0_sent_106 f0_lostCount_107 am1351_110 am1352_113 am1353_116 am1354_119 am1355_122 am1356_125 am1357_128 am1358_131 am1359_134 am13510_137 am13511_140 am13512_143 am13513_146 am13514_149 am13515_152 am13516_155 h
                      exact hk rfl h
            · intro h
              exact hk (zb_kvP zb_m100000) h
end
section
noncomputable def zq_X_holdersOn_4 (kk : Nat → Bool) (f0_openSet f0_state f0_votes f0_heard f0_names f0_name f0_slot f0_parts f0_trouble f0_troubled f0_happened f0_commitCount f0_first f0_waiting f0_sent f0_lostCount a1 a2 a3 a4 a5 a6 a7 a8 a9 a10 a11 a12 a13 a14 a15 a16 : Nat) : Nat → Nat → Nat → Bool
  | 0 => fun _ _ => false
  | n + 1 => fun x2 x3 => (zb_if (zb_le 12 x3) (kk x2) (zb_in x3 12 (zb_if (zb_eq (zb_rd a8 x3) 4294967295) (zb_let (Nat.lor x2 0) (fun x2_4 => (zb_let (Nat.add x3 3) (fun x3_5 => (zq_X_holdersOn_4 kk f0_openSet f0_state f0_votes f0_heard f0_names f0_name f0_slot f0_parts f0_trouble f0_troubled f0_happened f0_commitCount f0_first f0_waiting f0_sent f0_lostCount a1 a2 a3 a4 a5 a6 a7 a8 a9 a10 a11 a12 a13 a14 a15 a16 n x2_4 x3_5))))) (zb_in x3 12 (zb_let (Nat.lor x2 (zb_shl 1 (zb_rd a8 x3))) (fun x2_7 => (zb_let (Nat.add x3 3) (fun x3_8 => (zq_X_holdersOn_4 kk f0_openSet f0_state f0_votes f0_heard f0_names f0_name f0_slot f0_parts f0_trouble f0_troubled f0_happened f0_commitCount f0_first f0_waiting f0_sent f0_lostCount a1 a2 a3 a4 a5 a6 a7 a8 a9 a10 a11 a12 a13 a14 a15 a16 n x2_7 x3_8)))))))))
theorem zr_X_holdersOn_4 {c : Nat} (hc : c ≤ 1023) {post : Int32 → Prop} {kk : Nat → Bool} (hk : ∀ {r_ : Nat} {R_ : Int32}, R_ = nI r_ → kk r_  = true → post R_ ) {f0_openSet f0_state f0_votes f0_heard f0_names f0_name f0_slot f0_parts f0_trouble f0_troubled f0_happened f0_commitCount f0_first f0_waiting f0_sent f0_lostCount a1 a2 a3 a4 a5 a6 a7 a8 a9 a10 a11 a12 a13 a14 a15 a16 : Nat} : ∀ (n : Nat) {x2 x3 : Nat} {X_x2 X_x3 : Int32}, X_x2 = nI x2 → X_x3 = nI x3 → zq_X_holdersOn_4 kk f0_openSet f0_state f0_votes f0_heard f0_names f0_name f0_slot f0_parts f0_trouble f0_troubled f0_happened f0_commitCount f0_first f0_waiting f0_sent f0_lostCount a1 a2 a3 a4 a5 a6 a7 a8 a9 a10 a11 a12 a13 a14 a15 a16 n x2 x3 = true → wX_holdersOn_4 post (nI f0_openSet) (nI f0_state) (nI f0_votes) (nI f0_heard) (nI f0_names) (nI f0_name) (nI f0_slot) (nI f0_parts) (nI f0_trouble) (nI f0_troubled) (nI f0_happened) (nI f0_commitCount) (nI f0_first) (nI f0_waiting) (nI f0_sent) (nI f0_lostCount) (zb_va c a1) (zb_ka a2) (zb_ka a3) (zb_ka a4) (zb_ka a5) (zb_va c a6) (zb_va c a7) (zb_ka a8) (zb_ka a9) (zb_va c a10) (zb_ka a11) (zb_ka a12) (zb_ka a13) (zb_ka a14) (zb_ka a15) (zb_ka a16) n X_x2 X_x3 := by
  intro n
  induction n with
  | zero =>
    intro x2 x3 X_x2 X_x3 e_x2 e_x3 h
    exact absurd (show false = true from h) Bool.false_ne_true
  | succ n ih =>
    intro x2 x3 X_x2 X_x3 e_x2 e_x3 h
    subst e_x2
    subst e_x3
    refine zb_if_ok (zb_leP (rfl : (12 : Int32) = nI 12) rfl) h ?_ ?_
    · intro h
      exact hk rfl h
    · intro h
      refine zb_in_ok rfl (by decide) h ?_
      intro h
      refine zb_if_ok (zb_eqP (zb_rdK rfl) zb_m1) h ?_ ?_
      · intro h
        refine zb_let_k h (zb_orP rfl (rfl : (0 : Int32) = nI 0)) ?_
        intro h
        refine zb_let_k h (zb_addP rfl (rfl : (3 : Int32) = nI 3)) ?_
        intro h
        exact ih rfl rfl h
      · intro h
        refine zb_in_ok rfl (by decide) h ?_
        intro h
        refine zb_let_k h (zb_orP rfl (zb_shlP (rfl : (1 : Int32) = nI 1) (zb_rdK rfl))) ?_
        intro h
        refine zb_let_k h (zb_addP rfl (rfl : (3 : Int32) = nI 3)) ?_
        intro h
        exact ih rfl rfl h
noncomputable def zq_pX_holdersOn (kk : Nat → Bool) (f0_openSet f0_state f0_votes f0_heard f0_names f0_name f0_slot f0_parts f0_trouble f0_troubled f0_happened f0_commitCount f0_first f0_waiting f0_sent f0_lostCount a1 a2 a3 a4 a5 a6 a7 a8 a9 a10 a11 a12 a13 a14 a15 a16 p0 : Nat) : Bool := (zq_X_holdersOn_4 kk f0_openSet f0_state f0_votes f0_heard f0_names f0_name f0_slot f0_parts f0_trouble f0_troubled f0_happened f0_commitCount f0_first f0_waiting f0_sent f0_lostCount a1 a2 a3 a4 a5 a6 a7 a8 a9 a10 a11 a12 a13 a14 a15 a16 70 0 p0)
theorem zr_pX_holdersOn {c : Nat} (hc : c ≤ 1023) {post : Int32 → Prop} {kk : Nat → Bool} {f0_openSet f0_state f0_votes f0_heard f0_names f0_name f0_slot f0_parts f0_trouble f0_troubled f0_happened f0_commitCount f0_first f0_waiting f0_sent f0_lostCount a1 a2 a3 a4 a5 a6 a7 a8 a9 a10 a11 a12 a13 a14 a15 a16 p0 : Nat} {X_p0 : Int32} (e_p0 : X_p0 = nI p0) (h : zq_pX_holdersOn kk f0_openSet f0_state f0_votes f0_heard f0_names f0_name f0_slot f0_parts f0_trouble f0_troubled f0_happened f0_commitCount f0_first f0_waiting f0_sent f0_lostCount a1 a2 a3 a4 a5 a6 a7 a8 a9 a10 a11 a12 a13 a14 a15 a16 p0 = true) (hk : ∀ {r_ : Nat} {R_ : Int32}, R_ = nI r_ → kk r_  = true → post R_ ) : wpX_holdersOn post ((nI f0_openSet), (nI f0_state), (nI f0_votes), (nI f0_heard), (nI f0_names), (nI f0_name), (nI f0_slot), (nI f0_parts), (nI f0_trouble), (nI f0_troubled), (nI f0_happened), (nI f0_commitCount), (nI f0_first), (nI f0_waiting), (nI f0_sent), (nI f0_lostCount), (zb_va c a1), (zb_ka a2), (zb_ka a3), (zb_ka a4), (zb_ka a5), (zb_va c a6), (zb_va c a7), (zb_ka a8), (zb_ka a9), (zb_va c a10), (zb_ka a11), (zb_ka a12), (zb_ka a13), (zb_ka a14), (zb_ka a15), (zb_ka a16)) X_p0 := by
  subst e_p0
  unfold zq_pX_holdersOn at h
  unfold wpX_holdersOn
  refine ⟨70, ?_⟩
  exact zr_X_holdersOn_4 hc hk _ (rfl : (0 : Int32) = nI 0) rfl h
noncomputable def zq_X_startCommit_30 (kk : Nat → Nat → Nat → Nat → Nat → Nat → Nat → Nat → Nat → Nat → Nat → Nat → Nat → Nat → Nat → Nat → Nat → Nat → Nat → Nat → Nat → Nat → Nat → Nat → Nat → Nat → Nat → Nat → Nat → Nat → Nat → Nat → Bool) (x1 f0_openSet f0_state f0_votes f0_heard f0_names f0_name f0_slot f0_trouble f0_troubled f0_happened f0_commitCount f0_first f0_waiting f0_sent f0_lostCount a1 a2 a3 a4 a5 a6 a7 a8 a9 a10 a11 a12 a13 a14 a15 a16 : Nat) : Nat → Nat → Nat → Bool
  | 0 => fun _ _ => false
  | n + 1 => fun x2 f0_parts => (zb_if (zb_le 3 x2) (kk f0_openSet 1 0 0 f0_names f0_name f0_slot f0_parts f0_trouble f0_troubled 0 f0_commitCount 0 0 0 0 a1 a2 a3 a4 a5 a6 a7 a8 a9 a10 a11 a12 a13 a14 a15 a16) (zq_pX_holdersOn (fun r_3 => (zb_if (zb_eq (zb_bit r_3 x1) 0) (zb_let (Nat.lor f0_parts 0) (fun f_5 => (zb_let (Nat.add x2 1) (fun x2_6 => (zq_X_startCommit_30 kk x1 f0_openSet f0_state f0_votes f0_heard f0_names f0_name f0_slot f0_trouble f0_troubled f0_happened f0_commitCount f0_first f0_waiting f0_sent f0_lostCount a1 a2 a3 a4 a5 a6 a7 a8 a9 a10 a11 a12 a13 a14 a15 a16 n x2_6 f_5))))) (zb_let (Nat.lor f0_parts (zb_shl 1 x2)) (fun f_7 => (zb_let (Nat.add x2 1) (fun x2_8 => (zq_X_startCommit_30 kk x1 f0_openSet f0_state f0_votes f0_heard f0_names f0_name f0_slot f0_trouble f0_troubled f0_happened f0_commitCount f0_first f0_waiting f0_sent f0_lostCount a1 a2 a3 a4 a5 a6 a7 a8 a9 a10 a11 a12 a13 a14 a15 a16 n x2_8 f_7))))))) f0_openSet f0_state f0_votes f0_heard f0_names f0_name f0_slot f0_parts f0_trouble f0_troubled f0_happened f0_commitCount f0_first f0_waiting f0_sent f0_lostCount a1 a2 a3 a4 a5 a6 a7 a8 a9 a10 a11 a12 a13 a14 a15 a16 x2))
theorem zr_X_startCommit_30 {c : Nat} (hc : c ≤ 1023) {post : St2 → Prop} {kk : Nat → Nat → Nat → Nat → Nat → Nat → Nat → Nat → Nat → Nat → Nat → Nat → Nat → Nat → Nat → Nat → Nat → Nat → Nat → Nat → Nat → Nat → Nat → Nat → Nat → Nat → Nat → Nat → Nat → Nat → Nat → Nat → Bool} (hk : ∀ {f1 f2 f3 f4 f5 f6 f7 f8 f9 f10 f11 f12 f13 f14 f15 f16 b1 b2 b3 b4 b5 b6 b7 b8 b9 b10 b11 b12 b13 b14 b15 b16 : Nat}, kk f1 f2 f3 f4 f5 f6 f7 f8 f9 f10 f11 f12 f13 f14 f15 f16 b1 b2 b3 b4 b5 b6 b7 b8 b9 b10 b11 b12 b13 b14 b15 b16 = true → post ((nI f1), (nI f2), (nI f3), (nI f4), (nI f5), (nI f6), (nI f7), (nI f8), (nI f9), (nI f10), (nI f11), (nI f12), (nI f13), (nI f14), (nI f15), (nI f16), (zb_va c b1), (zb_ka b2), (zb_ka b3), (zb_ka b4), (zb_ka b5), (zb_va c b6), (zb_va c b7), (zb_ka b8), (zb_ka b9), (zb_va c b10), (zb_ka b11), (zb_ka b12), (zb_ka b13), (zb_ka b14), (zb_ka b15), (zb_ka b16))) {x1 f0_openSet f0_state f0_votes f0_heard f0_names f0_name f0_slot f0_trouble f0_troubled f0_happened f0_commitCount f0_first f0_waiting f0_sent f0_lostCount a1 a2 a3 a4 a5 a6 a7 a8 a9 a10 a11 a12 a13 a14 a15 a16 : Nat} {X_x1 : Int32} (e_x1 : X_x1 = nI x1) : ∀ (n : Nat) {x2 f0_parts : Nat} {X_x2 : Int32}, X_x2 = nI x2 → zq_X_startCommit_30 kk x1 f0_openSet f0_state f0_votes f0_heard f0_names f0_name f0_slot f0_trouble f0_troubled f0_happened f0_commitCount f0_first f0_waiting f0_sent f0_lostCount a1 a2 a3 a4 a5 a6 a7 a8 a9 a10 a11 a12 a13 a14 a15 a16 n x2 f0_parts = true → wX_startCommit_30 post X_x1 (nI f0_openSet) (nI f0_state) (nI f0_votes) (nI f0_heard) (nI f0_names) (nI f0_name) (nI f0_slot) (nI f0_trouble) (nI f0_troubled) (nI f0_happened) (nI f0_commitCount) (nI f0_first) (nI f0_waiting) (nI f0_sent) (nI f0_lostCount) (zb_va c a1) (zb_ka a2) (zb_ka a3) (zb_ka a4) (zb_ka a5) (zb_va c a6) (zb_va c a7) (zb_ka a8) (zb_ka a9) (zb_va c a10) (zb_ka a11) (zb_ka a12) (zb_ka a13) (zb_ka a14) (zb_ka a15) (zb_ka a16) n X_x2 (nI f0_parts) := by
  subst e_x1
  intro n
  induction n with
  | zero =>
    intro x2 f0_parts X_x2 e_x2 h
    exact absurd (show false = true from h) Bool.false_ne_true
  | succ n ih =>
    intro x2 f0_parts X_x2 e_x2 h
    subst e_x2
    refine zb_if_ok (zb_leP (rfl : (3 : Int32) = nI 3) rfl) h ?_ ?_
    · intro h
      exact hk h
    · intro h
      refine zr_pX_holdersOn hc rfl h ?_
      intro r_3 R_ eR_ h
      subst eR_
      refine zb_if_ok (zb_eqP (zb_bitP rfl rfl) (rfl : (0 : Int32) = nI 0)) h ?_ ?_
      · intro h
        refine zb_let_k h (zb_orP rfl (rfl : (0 : Int32) = nI 0)) ?_
        intro h
        refine zb_let_k h (zb_addP rfl (rfl : (1 : Int32) = nI 1)) ?_
        intro h
        exact ih rfl h
      · intro h
        refine zb_let_k h (zb_orP rfl (zb_shlP (rfl : (1 : Int32) = nI 1) rfl)) ?_
        intro h
        refine zb_let_k h (zb_addP rfl (rfl : (1 : Int32) = nI 1)) ?_
        intro h
        exact ih rfl h
noncomputable def zq_pX_startCommit (kk : Nat → Nat → Nat → Nat → Nat → Nat → Nat → Nat → Nat → Nat → Nat → Nat → Nat → Nat → Nat → Nat → Nat → Nat → Nat → Nat → Nat → Nat → Nat → Nat → Nat → Nat → Nat → Nat → Nat → Nat → Nat → Nat → Bool) (f0_openSet f0_state f0_votes f0_heard f0_names f0_name f0_slot f0_parts f0_trouble f0_troubled f0_happened f0_commitCount f0_first f0_waiting f0_sent f0_lostCount a1 a2 a3 a4 a5 a6 a7 a8 a9 a10 a11 a12 a13 a14 a15 a16 p0 : Nat) : Bool := (zb_let (Nat.add f0_names 1) (fun f_1 => (zq_X_startCommit_30 kk p0 f0_openSet f0_state f0_votes f0_heard f_1 f_1 p0 f0_trouble f0_troubled f0_happened f0_commitCount f0_first f0_waiting f0_sent f0_lostCount a1 a2 a3 a4 a5 a6 a7 a8 a9 a10 a11 a12 a13 a14 a15 a16 70 0 0)))
theorem zr_pX_startCommit {c : Nat} (hc : c ≤ 1023) {post : St2 → Prop} {kk : Nat → Nat → Nat → Nat → Nat → Nat → Nat → Nat → Nat → Nat → Nat → Nat → Nat → Nat → Nat → Nat → Nat → Nat → Nat → Nat → Nat → Nat → Nat → Nat → Nat → Nat → Nat → Nat → Nat → Nat → Nat → Nat → Bool} {f0_openSet f0_state f0_votes f0_heard f0_names f0_name f0_slot f0_parts f0_trouble f0_troubled f0_happened f0_commitCount f0_first f0_waiting f0_sent f0_lostCount a1 a2 a3 a4 a5 a6 a7 a8 a9 a10 a11 a12 a13 a14 a15 a16 p0 : Nat} {X_p0 : Int32} (e_p0 : X_p0 = nI p0) (h : zq_pX_startCommit kk f0_openSet f0_state f0_votes f0_heard f0_names f0_name f0_slot f0_parts f0_trouble f0_troubled f0_happened f0_commitCount f0_first f0_waiting f0_sent f0_lostCount a1 a2 a3 a4 a5 a6 a7 a8 a9 a10 a11 a12 a13 a14 a15 a16 p0 = true) (hk : ∀ {f1 f2 f3 f4 f5 f6 f7 f8 f9 f10 f11 f12 f13 f14 f15 f16 b1 b2 b3 b4 b5 b6 b7 b8 b9 b10 b11 b12 b13 b14 b15 b16 : Nat}, kk f1 f2 f3 f4 f5 f6 f7 f8 f9 f10 f11 f12 f13 f14 f15 f16 b1 b2 b3 b4 b5 b6 b7 b8 b9 b10 b11 b12 b13 b14 b15 b16 = true → post ((nI f1), (nI f2), (nI f3), (nI f4), (nI f5), (nI f6), (nI f7), (nI f8), (nI f9), (nI f10), (nI f11), (nI f12), (nI f13), (nI f14), (nI f15), (nI f16), (zb_va c b1), (zb_ka b2), (zb_ka b3), (zb_ka b4), (zb_ka b5), (zb_va c b6), (zb_va c b7), (zb_ka b8), (zb_ka b9), (zb_va c b10), (zb_ka b11), (zb_ka b12), (zb_ka b13), (zb_ka b14), (zb_ka b15), (zb_ka b16))) : wpX_startCommit post ((nI f0_openSet), (nI f0_state), (nI f0_votes), (nI f0_heard), (nI f0_names), (nI f0_name), (nI f0_slot), (nI f0_parts), (nI f0_trouble), (nI f0_troubled), (nI f0_happened), (nI f0_commitCount), (nI f0_first), (nI f0_waiting), (nI f0_sent), (nI f0_lostCount), (zb_va c a1), (zb_ka a2), (zb_ka a3), (zb_ka a4), (zb_ka a5), (zb_va c a6), (zb_va c a7), (zb_ka a8), (zb_ka a9), (zb_va c a10), (zb_ka a11), (zb_ka a12), (zb_ka a13), (zb_ka a14), (zb_ka a15), (zb_ka a16)) X_p0 := by
  subst e_p0
  unfold zq_pX_startCommit at h
  unfold wpX_startCommit
  refine zb_let_k h (zb_addP rfl (rfl : (1 : Int32) = nI 1)) ?_
  intro h
  refine ⟨70, ?_⟩
  exact zr_X_startCommit_30 hc hk rfl _ (rfl : (0 : Int32) = nI 0) h
noncomputable def zq_pX_isPart (kk : Nat → Bool) (f0_openSet f0_state f0_votes f0_heard f0_names f0_name f0_slot f0_parts f0_trouble f0_troubled f0_happened f0_commitCount f0_first f0_waiting f0_sent f0_lostCount a1 a2 a3 a4 a5 a6 a7 a8 a9 a10 a11 a12 a13 a14 a15 a16 p0 : Nat) : Bool := (zb_if (zb_eq (zb_bit f0_parts p0) 0) (kk 0) (kk 1))
theorem zr_pX_isPart {c : Nat} (hc : c ≤ 1023) {post : Int32 → Prop} {kk : Nat → Bool} {f0_openSet f0_state f0_votes f0_heard f0_names f0_name f0_slot f0_parts f0_trouble f0_troubled f0_happened f0_commitCount f0_first f0_waiting f0_sent f0_lostCount a1 a2 a3 a4 a5 a6 a7 a8 a9 a10 a11 a12 a13 a14 a15 a16 p0 : Nat} {X_p0 : Int32} (e_p0 : X_p0 = nI p0) (h : zq_pX_isPart kk f0_openSet f0_state f0_votes f0_heard f0_names f0_name f0_slot f0_parts f0_trouble f0_troubled f0_happened f0_commitCount f0_first f0_waiting f0_sent f0_lostCount a1 a2 a3 a4 a5 a6 a7 a8 a9 a10 a11 a12 a13 a14 a15 a16 p0 = true) (hk : ∀ {r_ : Nat} {R_ : Int32}, R_ = nI r_ → kk r_  = true → post R_ ) : wpX_isPart post ((nI f0_openSet), (nI f0_state), (nI f0_votes), (nI f0_heard), (nI f0_names), (nI f0_name), (nI f0_slot), (nI f0_parts), (nI f0_trouble), (nI f0_troubled), (nI f0_happened), (nI f0_commitCount), (nI f0_first), (nI f0_waiting), (nI f0_sent), (nI f0_lostCount), (zb_va c a1), (zb_ka a2), (zb_ka a3), (zb_ka a4), (zb_ka a5), (zb_va c a6), (zb_va c a7), (zb_ka a8), (zb_ka a9), (zb_va c a10), (zb_ka a11), (zb_ka a12), (zb_ka a13), (zb_ka a14), (zb_ka a15), (zb_ka a16)) X_p0 := by
  subst e_p0
  unfold zq_pX_isPart at h
  unfold wpX_isPart
  refine zb_if_ok (zb_eqP (zb_bitP rfl rfl) (rfl : (0 : Int32) = nI 0)) h ?_ ?_
  · intro h
    exact hk (rfl : (0 : Int32) = nI 0) h
  · intro h
    exact hk (rfl : (1 : Int32) = nI 1) h
noncomputable def zq_X_strikes_28 (kk : Nat → Nat → Nat → Nat → Nat → Nat → Nat → Nat → Nat → Nat → Nat → Nat → Nat → Nat → Nat → Nat → Nat → Nat → Nat → Nat → Nat → Nat → Nat → Nat → Nat → Nat → Nat → Nat → Nat → Nat → Nat → Nat → Nat → Bool) (z0 f0_openSet f0_state f0_votes f0_heard f0_names f0_name f0_slot f0_parts f0_trouble f0_troubled f0_happened f0_commitCount f0_first f0_waiting f0_sent f0_lostCount a1 a2 a3 a4 a5 a6 a7 a8 a9 a10 a11 a12 a13 a14 a15 a16 : Nat) : Bool := (zb_if (zb_eq f0_happened 0) (zb_if (zb_eq z0 0) (zb_g (zb_b01 z0) (kk z0 f0_openSet f0_state f0_votes f0_heard f0_names f0_name f0_slot f0_parts f0_trouble f0_troubled 0 f0_commitCount f0_first f0_waiting f0_sent f0_lostCount a1 a2 a3 a4 a5 a6 a7 a8 a9 a10 a11 a12 a13 a14 a15 a16)) (zb_g (zb_b01 z0) (kk z0 f0_openSet f0_state f0_votes f0_heard f0_names f0_name f0_slot f0_parts f0_trouble f0_troubled 1 f0_commitCount f0_first f0_waiting f0_sent f0_lostCount a1 a2 a3 a4 a5 a6 a7 a8 a9 a10 a11 a12 a13 a14 a15 a16))) (zb_g (zb_b01 z0) (kk z0 f0_openSet f0_state f0_votes f0_heard f0_names f0_name f0_slot f0_parts f0_trouble f0_troubled 1 f0_commitCount f0_first f0_waiting f0_sent f0_lostCount a1 a2 a3 a4 a5 a6 a7 a8 a9 a10 a11 a12 a13 a14 a15 a16)))
theorem zr_X_strikes_28 {c : Nat} (hc : c ≤ 1023) {post : Int32 → St2 → Prop} {kk : Nat → Nat → Nat → Nat → Nat → Nat → Nat → Nat → Nat → Nat → Nat → Nat → Nat → Nat → Nat → Nat → Nat → Nat → Nat → Nat → Nat → Nat → Nat → Nat → Nat → Nat → Nat → Nat → Nat → Nat → Nat → Nat → Nat → Bool} {z0 f0_openSet f0_state f0_votes f0_heard f0_names f0_name f0_slot f0_parts f0_trouble f0_troubled f0_happened f0_commitCount f0_first f0_waiting f0_sent f0_lostCount a1 a2 a3 a4 a5 a6 a7 a8 a9 a10 a11 a12 a13 a14 a15 a16 : Nat} {X_z0 : Int32} (e_z0 : X_z0 = nI z0) (h : zq_X_strikes_28 kk z0 f0_openSet f0_state f0_votes f0_heard f0_names f0_name f0_slot f0_parts f0_trouble f0_troubled f0_happened f0_commitCount f0_first f0_waiting f0_sent f0_lostCount a1 a2 a3 a4 a5 a6 a7 a8 a9 a10 a11 a12 a13 a14 a15 a16 = true) (hk : ∀ {r_ : Nat} {R_ : Int32}, R_ = nI r_ → ∀ {f1 f2 f3 f4 f5 f6 f7 f8 f9 f10 f11 f12 f13 f14 f15 f16 b1 b2 b3 b4 b5 b6 b7 b8 b9 b10 b11 b12 b13 b14 b15 b16 : Nat}, kk r_ f1 f2 f3 f4 f5 f6 f7 f8 f9 f10 f11 f12 f13 f14 f15 f16 b1 b2 b3 b4 b5 b6 b7 b8 b9 b10 b11 b12 b13 b14 b15 b16 = true → post R_ ((nI f1), (nI f2), (nI f3), (nI f4), (nI f5), (nI f6), (nI f7), (nI f8), (nI f9), (nI f10), (nI f11), (nI f12), (nI f13), (nI f14), (nI f15), (nI f16), (zb_va c b1), (zb_ka b2), (zb_ka b3), (zb_ka b4), (zb_ka b5), (zb_va c b6), (zb_va c b7), (zb_ka b8), (zb_ka b9), (zb_va c b10), (zb_ka b11), (zb_ka b12), (zb_ka b13), (zb_ka b14), (zb_ka b15), (zb_ka b16))) : wX_strikes_28 post X_z0 (nI f0_openSet) (nI f0_state) (nI f0_votes) (nI f0_heard) (nI f0_names) (nI f0_name) (nI f0_slot) (nI f0_parts) (nI f0_trouble) (nI f0_troubled) (nI f0_happened) (nI f0_commitCount) (nI f0_first) (nI f0_waiting) (nI f0_sent) (nI f0_lostCount) (zb_va c a1) (zb_ka a2) (zb_ka a3) (zb_ka a4) (zb_ka a5) (zb_va c a6) (zb_va c a7) (zb_ka a8) (zb_ka a9) (zb_va c a10) (zb_ka a11) (zb_ka a12) (zb_ka a13) (zb_ka a14) (zb_ka a15) (zb_ka a16) := by
  subst e_z0
  unfold zq_X_strikes_28 at h
  unfold wX_strikes_28
  refine zb_if_ok (zb_eqP rfl (rfl : (0 : Int32) = nI 0)) h ?_ ?_
  · intro h
    refine zb_if_ok (zb_eqP rfl (rfl : (0 : Int32) = nI 0)) h ?_ ?_
    · intro h
      refine zb_nar_ok rfl h ?_
      intro h
      exact hk rfl h
    · intro h
      refine zb_nar_ok rfl h ?_
      intro h
      exact hk rfl h
  · intro h
    refine zb_nar_ok rfl h ?_
    intro h
    exact hk rfl h
noncomputable def zq_X_strikes_27 (kk : Nat → Nat → Nat → Nat → Nat → Nat → Nat → Nat → Nat → Nat → Nat → Nat → Nat → Nat → Nat → Nat → Nat → Nat → Nat → Nat → Nat → Nat → Nat → Nat → Nat → Nat → Nat → Nat → Nat → Nat → Nat → Nat → Nat → Bool) (f0_openSet f0_state f0_votes f0_heard f0_names f0_name f0_slot f0_parts f0_trouble f0_troubled f0_happened f0_commitCount f0_first f0_waiting f0_sent f0_lostCount a1 a2 a3 a4 a5 a6 a7 a8 a9 a10 a11 a12 a13 a14 a15 a16 : Nat) : Bool := (zq_X_strikes_28 kk 0 f0_openSet f0_state f0_votes f0_heard f0_names f0_name f0_slot f0_parts f0_trouble f0_troubled f0_happened f0_commitCount f0_first f0_waiting f0_sent f0_lostCount a1 a2 a3 a4 a5 a6 a7 a8 a9 a10 a11 a12 a13 a14 a15 a16)
theorem zr_X_strikes_27 {c : Nat} (hc : c ≤ 1023) {post : Int32 → St2 → Prop} {kk : Nat → Nat → Nat → Nat → Nat → Nat → Nat → Nat → Nat → Nat → Nat → Nat → Nat → Nat → Nat → Nat → Nat → Nat → Nat → Nat → Nat → Nat → Nat → Nat → Nat → Nat → Nat → Nat → Nat → Nat → Nat → Nat → Nat → Bool} {f0_openSet f0_state f0_votes f0_heard f0_names f0_name f0_slot f0_parts f0_trouble f0_troubled f0_happened f0_commitCount f0_first f0_waiting f0_sent f0_lostCount a1 a2 a3 a4 a5 a6 a7 a8 a9 a10 a11 a12 a13 a14 a15 a16 : Nat} (h : zq_X_strikes_27 kk f0_openSet f0_state f0_votes f0_heard f0_names f0_name f0_slot f0_parts f0_trouble f0_troubled f0_happened f0_commitCount f0_first f0_waiting f0_sent f0_lostCount a1 a2 a3 a4 a5 a6 a7 a8 a9 a10 a11 a12 a13 a14 a15 a16 = true) (hk : ∀ {r_ : Nat} {R_ : Int32}, R_ = nI r_ → ∀ {f1 f2 f3 f4 f5 f6 f7 f8 f9 f10 f11 f12 f13 f14 f15 f16 b1 b2 b3 b4 b5 b6 b7 b8 b9 b10 b11 b12 b13 b14 b15 b16 : Nat}, kk r_ f1 f2 f3 f4 f5 f6 f7 f8 f9 f10 f11 f12 f13 f14 f15 f16 b1 b2 b3 b4 b5 b6 b7 b8 b9 b10 b11 b12 b13 b14 b15 b16 = true → post R_ ((nI f1), (nI f2), (nI f3), (nI f4), (nI f5), (nI f6), (nI f7), (nI f8), (nI f9), (nI f10), (nI f11), (nI f12), (nI f13), (nI f14), (nI f15), (nI f16), (zb_va c b1), (zb_ka b2), (zb_ka b3), (zb_ka b4), (zb_ka b5), (zb_va c b6), (zb_va c b7), (zb_ka b8), (zb_ka b9), (zb_va c b10), (zb_ka b11), (zb_ka b12), (zb_ka b13), (zb_ka b14), (zb_ka b15), (zb_ka b16))) : wX_strikes_27 post (nI f0_openSet) (nI f0_state) (nI f0_votes) (nI f0_heard) (nI f0_names) (nI f0_name) (nI f0_slot) (nI f0_parts) (nI f0_trouble) (nI f0_troubled) (nI f0_happened) (nI f0_commitCount) (nI f0_first) (nI f0_waiting) (nI f0_sent) (nI f0_lostCount) (zb_va c a1) (zb_ka a2) (zb_ka a3) (zb_ka a4) (zb_ka a5) (zb_va c a6) (zb_va c a7) (zb_ka a8) (zb_ka a9) (zb_va c a10) (zb_ka a11) (zb_ka a12) (zb_ka a13) (zb_ka a14) (zb_ka a15) (zb_ka a16) := by
  unfold zq_X_strikes_27 at h
  unfold wX_strikes_27
  exact zr_X_strikes_28 hc (rfl : (0 : Int32) = nI 0) h hk
noncomputable def zq_pX_strikes (kk : Nat → Nat → Nat → Nat → Nat → Nat → Nat → Nat → Nat → Nat → Nat → Nat → Nat → Nat → Nat → Nat → Nat → Nat → Nat → Nat → Nat → Nat → Nat → Nat → Nat → Nat → Nat → Nat → Nat → Nat → Nat → Nat → Nat → Bool) (f0_openSet f0_state f0_votes f0_heard f0_names f0_name f0_slot f0_parts f0_trouble f0_troubled f0_happened f0_commitCount f0_first f0_waiting f0_sent f0_lostCount a1 a2 a3 a4 a5 a6 a7 a8 a9 a10 a11 a12 a13 a14 a15 a16 p0 p1 : Nat) : Bool := (zb_if (zb_eq f0_trouble p0) (zb_if (zb_eq f0_happened 0) (zb_if (zb_eq p1 f0_troubled) (zq_X_strikes_28 kk 1 f0_openSet f0_state f0_votes f0_heard f0_names f0_name f0_slot f0_parts f0_trouble f0_troubled f0_happened f0_commitCount f0_first f0_waiting f0_sent f0_lostCount a1 a2 a3 a4 a5 a6 a7 a8 a9 a10 a11 a12 a13 a14 a15 a16) (zq_X_strikes_27 kk f0_openSet f0_state f0_votes f0_heard f0_names f0_name f0_slot f0_parts f0_trouble f0_troubled f0_happened f0_commitCount f0_first f0_waiting f0_sent f0_lostCount a1 a2 a3 a4 a5 a6 a7 a8 a9 a10 a11 a12 a13 a14 a15 a16)) (zq_X_strikes_27 kk f0_openSet f0_state f0_votes f0_heard f0_names f0_name f0_slot f0_parts f0_trouble f0_troubled f0_happened f0_commitCount f0_first f0_waiting f0_sent f0_lostCount a1 a2 a3 a4 a5 a6 a7 a8 a9 a10 a11 a12 a13 a14 a15 a16)) (zq_X_strikes_27 kk f0_openSet f0_state f0_votes f0_heard f0_names f0_name f0_slot f0_parts f0_trouble f0_troubled f0_happened f0_commitCount f0_first f0_waiting f0_sent f0_lostCount a1 a2 a3 a4 a5 a6 a7 a8 a9 a10 a11 a12 a13 a14 a15 a16))
theorem zr_pX_strikes {c : Nat} (hc : c ≤ 1023) {post : Int32 → St2 → Prop} {kk : Nat → Nat → Nat → Nat → Nat → Nat → Nat → Nat → Nat → Nat → Nat → Nat → Nat → Nat → Nat → Nat → Nat → Nat → Nat → Nat → Nat → Nat → Nat → Nat → Nat → Nat → Nat → Nat → Nat → Nat → Nat → Nat → Nat → Bool} {f0_openSet f0_state f0_votes f0_heard f0_names f0_name f0_slot f0_parts f0_trouble f0_troubled f0_happened f0_commitCount f0_first f0_waiting f0_sent f0_lostCount a1 a2 a3 a4 a5 a6 a7 a8 a9 a10 a11 a12 a13 a14 a15 a16 p0 p1 : Nat} {X_p0 : Int32} (e_p0 : X_p0 = nI p0) {X_p1 : Int32} (e_p1 : X_p1 = nI p1) (h : zq_pX_strikes kk f0_openSet f0_state f0_votes f0_heard f0_names f0_name f0_slot f0_parts f0_trouble f0_troubled f0_happened f0_commitCount f0_first f0_waiting f0_sent f0_lostCount a1 a2 a3 a4 a5 a6 a7 a8 a9 a10 a11 a12 a13 a14 a15 a16 p0 p1 = true) (hk : ∀ {r_ : Nat} {R_ : Int32}, R_ = nI r_ → ∀ {f1 f2 f3 f4 f5 f6 f7 f8 f9 f10 f11 f12 f13 f14 f15 f16 b1 b2 b3 b4 b5 b6 b7 b8 b9 b10 b11 b12 b13 b14 b15 b16 : Nat}, kk r_ f1 f2 f3 f4 f5 f6 f7 f8 f9 f10 f11 f12 f13 f14 f15 f16 b1 b2 b3 b4 b5 b6 b7 b8 b9 b10 b11 b12 b13 b14 b15 b16 = true → post R_ ((nI f1), (nI f2), (nI f3), (nI f4), (nI f5), (nI f6), (nI f7), (nI f8), (nI f9), (nI f10), (nI f11), (nI f12), (nI f13), (nI f14), (nI f15), (nI f16), (zb_va c b1), (zb_ka b2), (zb_ka b3), (zb_ka b4), (zb_ka b5), (zb_va c b6), (zb_va c b7), (zb_ka b8), (zb_ka b9), (zb_va c b10), (zb_ka b11), (zb_ka b12), (zb_ka b13), (zb_ka b14), (zb_ka b15), (zb_ka b16))) : wpX_strikes post ((nI f0_openSet), (nI f0_state), (nI f0_votes), (nI f0_heard), (nI f0_names), (nI f0_name), (nI f0_slot), (nI f0_parts), (nI f0_trouble), (nI f0_troubled), (nI f0_happened), (nI f0_commitCount), (nI f0_first), (nI f0_waiting), (nI f0_sent), (nI f0_lostCount), (zb_va c a1), (zb_ka a2), (zb_ka a3), (zb_ka a4), (zb_ka a5), (zb_va c a6), (zb_va c a7), (zb_ka a8), (zb_ka a9), (zb_va c a10), (zb_ka a11), (zb_ka a12), (zb_ka a13), (zb_ka a14), (zb_ka a15), (zb_ka a16)) X_p0 X_p1 := by
  subst e_p0
  subst e_p1
  unfold zq_pX_strikes at h
  unfold wpX_strikes
  refine zb_if_ok (zb_eqP rfl rfl) h ?_ ?_
  · intro h
    refine zb_if_ok (zb_eqP rfl (rfl : (0 : Int32) = nI 0)) h ?_ ?_
    · intro h
      refine zb_if_ok (zb_eqP rfl rfl) h ?_ ?_
      · intro h
        exact zr_X_strikes_28 hc (rfl : (1 : Int32) = nI 1) h hk
      · intro h
        exact zr_X_strikes_27 hc h hk
    · intro h
      exact zr_X_strikes_27 hc h hk
  · intro h
    exact zr_X_strikes_27 hc h hk
noncomputable def zq_pX_log (kk : Nat → Nat → Nat → Nat → Nat → Nat → Nat → Nat → Nat → Nat → Nat → Nat → Nat → Nat → Nat → Nat → Nat → Nat → Nat → Nat → Nat → Nat → Nat → Nat → Nat → Nat → Nat → Nat → Nat → Nat → Nat → Nat → Bool) (f0_openSet f0_state f0_votes f0_heard f0_names f0_name f0_slot f0_parts f0_trouble f0_troubled f0_happened f0_commitCount f0_first f0_waiting f0_sent f0_lostCount a1 a2 a3 a4 a5 a6 a7 a8 a9 a10 a11 a12 a13 a14 a15 a16 p0 p1 p2 p3 p4 : Nat) : Bool := (zb_in p0 4 (zb_let (Nat.add (Nat.mul p0 64) (zb_rd a2 p0)) (fun x6_2 => (zb_in x6_2 256 (zb_let (zb_wr a3 (zb_cl x6_2) (zb_i8 p1)) (fun a3_4 => (zb_in x6_2 256 (zb_let (zb_wr a4 (zb_cl x6_2) p2) (fun a4_6 => (zb_in x6_2 256 (zb_let (zb_wr a5 (zb_cl x6_2) (zb_i8 p3)) (fun a5_8 => (zb_in x6_2 256 (zb_let (zb_wr a6 (zb_cl x6_2) p4) (fun a6_10 => (zb_in p0 4 (zb_in p0 4 (zb_let (zb_wr a2 (zb_cl p0) (Nat.add (zb_rd a2 p0) 1)) (fun a2_13 => (kk f0_openSet f0_state f0_votes f0_heard f0_names f0_name f0_slot f0_parts f0_trouble f0_troubled f0_happened f0_commitCount f0_first f0_waiting f0_sent f0_lostCount a1 a2_13 a3_4 a4_6 a5_8 a6_10 a7 a8 a9 a10 a11 a12 a13 a14 a15 a16))))))))))))))))))))
theorem zr_pX_log {c : Nat} (hc : c ≤ 1023) {post : St2 → Prop} {kk : Nat → Nat → Nat → Nat → Nat → Nat → Nat → Nat → Nat → Nat → Nat → Nat → Nat → Nat → Nat → Nat → Nat → Nat → Nat → Nat → Nat → Nat → Nat → Nat → Nat → Nat → Nat → Nat → Nat → Nat → Nat → Nat → Bool} {f0_openSet f0_state f0_votes f0_heard f0_names f0_name f0_slot f0_parts f0_trouble f0_troubled f0_happened f0_commitCount f0_first f0_waiting f0_sent f0_lostCount a1 a2 a3 a4 a5 a6 a7 a8 a9 a10 a11 a12 a13 a14 a15 a16 p0 p1 p2 p3 p4 : Nat} {X_p0 : Int32} (e_p0 : X_p0 = nI p0) {X_p1 : Int32} (e_p1 : X_p1 = nI p1) {X_p2 : Int32} (e_p2 : X_p2 = nI p2) {X_p3 : Int32} (e_p3 : X_p3 = nI p3) {X_p4 : Int32} (e_p4 : X_p4 = zb_dv c p4) (h : zq_pX_log kk f0_openSet f0_state f0_votes f0_heard f0_names f0_name f0_slot f0_parts f0_trouble f0_troubled f0_happened f0_commitCount f0_first f0_waiting f0_sent f0_lostCount a1 a2 a3 a4 a5 a6 a7 a8 a9 a10 a11 a12 a13 a14 a15 a16 p0 p1 p2 p3 p4 = true) (hk : ∀ {f1 f2 f3 f4 f5 f6 f7 f8 f9 f10 f11 f12 f13 f14 f15 f16 b1 b2 b3 b4 b5 b6 b7 b8 b9 b10 b11 b12 b13 b14 b15 b16 : Nat}, kk f1 f2 f3 f4 f5 f6 f7 f8 f9 f10 f11 f12 f13 f14 f15 f16 b1 b2 b3 b4 b5 b6 b7 b8 b9 b10 b11 b12 b13 b14 b15 b16 = true → post ((nI f1), (nI f2), (nI f3), (nI f4), (nI f5), (nI f6), (nI f7), (nI f8), (nI f9), (nI f10), (nI f11), (nI f12), (nI f13), (nI f14), (nI f15), (nI f16), (zb_va c b1), (zb_ka b2), (zb_ka b3), (zb_ka b4), (zb_ka b5), (zb_va c b6), (zb_va c b7), (zb_ka b8), (zb_ka b9), (zb_va c b10), (zb_ka b11), (zb_ka b12), (zb_ka b13), (zb_ka b14), (zb_ka b15), (zb_ka b16))) : wpX_log post ((nI f0_openSet), (nI f0_state), (nI f0_votes), (nI f0_heard), (nI f0_names), (nI f0_name), (nI f0_slot), (nI f0_parts), (nI f0_trouble), (nI f0_troubled), (nI f0_happened), (nI f0_commitCount), (nI f0_first), (nI f0_waiting), (nI f0_sent), (nI f0_lostCount), (zb_va c a1), (zb_ka a2), (zb_ka a3), (zb_ka a4), (zb_ka a5), (zb_va c a6), (zb_va c a7), (zb_ka a8), (zb_ka a9), (zb_va c a10), (zb_ka a11), (zb_ka a12), (zb_ka a13), (zb_ka a14), (zb_ka a15), (zb_ka a16)) X_p0 X_p1 X_p2 X_p3 X_p4 := by
  subst e_p0
  subst e_p1
  subst e_p2
  subst e_p3
  subst e_p4
  unfold zq_pX_log at h
  unfold wpX_log
  refine zb_in_ok rfl (by decide) h ?_
  intro h
  refine zb_let_k h (zb_addP (zb_mulP rfl (rfl : (64 : Int32) = nI 64)) (zb_rdK rfl)) ?_
  intro h
  refine zb_in_ok rfl (by decide) h ?_
  intro h
  refine zb_let_ka h (zb_upK rfl (zb_i8P rfl)) ?_
  intro h
  refine zb_in_ok rfl (by decide) h ?_
  intro h
  refine zb_let_ka h (zb_upK rfl rfl) ?_
  intro h
  refine zb_in_ok rfl (by decide) h ?_
  intro h
  refine zb_let_ka h (zb_upK rfl (zb_i8P rfl)) ?_
  intro h
  refine zb_in_ok rfl (by decide) h ?_
  intro h
  refine zb_let_va h (zb_upV rfl rfl) ?_
  intro h
  refine zb_in_ok rfl (by decide) h ?_
  intro h
  refine zb_in_ok rfl (by decide) h ?_
  intro h
  refine zb_let_ka h (zb_upK rfl (zb_addP (zb_rdK rfl) (rfl : (1 : Int32) = nI 1))) ?_
  intro h
  exact hk h
noncomputable def zq_X_send_95 (kk : Nat → Nat → Nat → Nat → Nat → Nat → Nat → Nat → Nat → Nat → Nat → Nat → Nat → Nat → Nat → Nat → Nat → Nat → Nat → Nat → Nat → Nat → Nat → Nat → Nat → Nat → Nat → Nat → Nat → Nat → Nat → Nat → Bool) (x1 x2 x3 x5 f0_openSet f0_state f0_votes f0_heard f0_names f0_name f0_slot f0_parts f0_trouble f0_troubled f0_happened f0_commitCount f0_first f0_sent f0_lostCount : Nat) : Nat → Nat → Nat → Nat → Nat → Nat → Nat → Nat → Nat → Nat → Nat → Nat → Nat → Nat → Nat → Nat → Nat → Nat → Nat → Bool
  | 0 => fun _ _ _ _ _ _ _ _ _ _ _ _ _ _ _ _ _ _ => false
  | n + 1 => fun x6 f0_waiting a1 a2 a3 a4 a5 a6 a7 a8 a9 a10 a11 a12 a13 a14 a15 a16 => (zb_if (zb_le x5 x6) (kk f0_openSet f0_state f0_votes f0_heard f0_names f0_name f0_slot f0_parts f0_trouble f0_troubled f0_happened f0_commitCount f0_first f0_waiting f0_sent f0_lostCount a1 a2 a3 a4 a5 a6 a7 a8 a9 a10 a11 a12 a13 a14 a15 a16) (zb_if (zb_le 64 f0_waiting) (kk f0_openSet f0_state f0_votes f0_heard f0_names f0_name f0_slot f0_parts f0_trouble f0_troubled f0_happened f0_commitCount f0_first f0_waiting f0_sent f0_lostCount a1 a2 a3 a4 a5 a6 a7 a8 a9 a10 a11 a12 a13 a14 a15 a16) (zb_g (zb_nn (Nat.add f0_first f0_waiting)) (zb_let (zb_rem (Nat.add f0_first f0_waiting) 64) (fun x7_10 => (zb_in x7_10 64 (zb_let (zb_wr a13 (zb_cl x7_10) (zb_i8 x1)) (fun a13_12 => (zb_in x7_10 64 (zb_let (zb_wr a14 (zb_cl x7_10) (zb_i8 x2)) (fun a14_14 => (zb_in x7_10 64 (zb_let (zb_wr a15 (zb_cl x7_10) (zb_i8 x3)) (fun a15_16 => (zb_in x7_10 64 (zb_let (zb_wr a16 (zb_cl x7_10) f0_name) (fun a16_18 => (zb_let (Nat.add f0_waiting 1) (fun f_19 => (zb_let (Nat.add x6 1) (fun x6_20 => (zq_X_send_95 kk x1 x2 x3 x5 f0_openSet f0_state f0_votes f0_heard f0_names f0_name f0_slot f0_parts f0_trouble f0_troubled f0_happened f0_commitCount f0_first f0_sent f0_lostCount n x6_20 f_19 a1 a2 a3 a4 a5 a6 a7 a8 a9 a10 a11 a12 a13_12 a14_14 a15_16 a16_18))))))))))))))))))))))
theorem zr_X_send_95 {c : Nat} (hc : c ≤ 1023) {post : St2 → Prop} {kk : Nat → Nat → Nat → Nat → Nat → Nat → Nat → Nat → Nat → Nat → Nat → Nat → Nat → Nat → Nat → Nat → Nat → Nat → Nat → Nat → Nat → Nat → Nat → Nat → Nat → Nat → Nat → Nat → Nat → Nat → Nat → Nat → Bool} (hk : ∀ {f1 f2 f3 f4 f5 f6 f7 f8 f9 f10 f11 f12 f13 f14 f15 f16 b1 b2 b3 b4 b5 b6 b7 b8 b9 b10 b11 b12 b13 b14 b15 b16 : Nat}, kk f1 f2 f3 f4 f5 f6 f7 f8 f9 f10 f11 f12 f13 f14 f15 f16 b1 b2 b3 b4 b5 b6 b7 b8 b9 b10 b11 b12 b13 b14 b15 b16 = true → post ((nI f1), (nI f2), (nI f3), (nI f4), (nI f5), (nI f6), (nI f7), (nI f8), (nI f9), (nI f10), (nI f11), (nI f12), (nI f13), (nI f14), (nI f15), (nI f16), (zb_va c b1), (zb_ka b2), (zb_ka b3), (zb_ka b4), (zb_ka b5), (zb_va c b6), (zb_va c b7), (zb_ka b8), (zb_ka b9), (zb_va c b10), (zb_ka b11), (zb_ka b12), (zb_ka b13), (zb_ka b14), (zb_ka b15), (zb_ka b16))) {x1 x2 x3 x5 f0_openSet f0_state f0_votes f0_heard f0_names f0_name f0_slot f0_parts f0_trouble f0_troubled f0_happened f0_commitCount f0_first f0_sent f0_lostCount : Nat} {X_x1 : Int32} (e_x1 : X_x1 = nI x1) {X_x2 : Int32} (e_x2 : X_x2 = nI x2) {X_x3 : Int32} (e_x3 : X_x3 = nI x3) {X_x5 : Int32} (e_x5 : X_x5 = nI x5) : ∀ (n : Nat) {x6 f0_waiting a1 a2 a3 a4 a5 a6 a7 a8 a9 a10 a11 a12 a13 a14 a15 a16 : Nat} {X_x6 : Int32}, X_x6 = nI x6 → zq_X_send_95 kk x1 x2 x3 x5 f0_openSet f0_state f0_votes f0_heard f0_names f0_name f0_slot f0_parts f0_trouble f0_troubled f0_happened f0_commitCount f0_first f0_sent f0_lostCount n x6 f0_waiting a1 a2 a3 a4 a5 a6 a7 a8 a9 a10 a11 a12 a13 a14 a15 a16 = true → wX_send_95 post X_x1 X_x2 X_x3 X_x5 (nI f0_openSet) (nI f0_state) (nI f0_votes) (nI f0_heard) (nI f0_names) (nI f0_name) (nI f0_slot) (nI f0_parts) (nI f0_trouble) (nI f0_troubled) (nI f0_happened) (nI f0_commitCount) (nI f0_first) (nI f0_sent) (nI f0_lostCount) n X_x6 (nI f0_waiting) (zb_va c a1) (zb_ka a2) (zb_ka a3) (zb_ka a4) (zb_ka a5) (zb_va c a6) (zb_va c a7) (zb_ka a8) (zb_ka a9) (zb_va c a10) (zb_ka a11) (zb_ka a12) (zb_ka a13) (zb_ka a14) (zb_ka a15) (zb_ka a16) := by
  subst e_x1
  subst e_x2
  subst e_x3
  subst e_x5
  intro n
  induction n with
  | zero =>
    intro x6 f0_waiting a1 a2 a3 a4 a5 a6 a7 a8 a9 a10 a11 a12 a13 a14 a15 a16 X_x6 e_x6 h
    exact absurd (show false = true from h) Bool.false_ne_true
  | succ n ih =>
    intro x6 f0_waiting a1 a2 a3 a4 a5 a6 a7 a8 a9 a10 a11 a12 a13 a14 a15 a16 X_x6 e_x6 h
    subst e_x6
    refine zb_if_ok (zb_leP rfl rfl) h ?_ ?_
    · intro h
      exact hk h
    · intro h
      refine zb_if_ok (zb_leP (rfl : (64 : Int32) = nI 64) rfl) h ?_ ?_
      · intro h
        exact hk h
      · intro h
        refine ⟨by decide, ?_⟩
        refine zb_g_ok h ?_
        intro g1 h
        refine zb_let_k h (zb_remP g1 (zb_addP rfl rfl) (rfl : (64 : Int32) = nI 64)) ?_
        intro h
        refine zb_in_ok rfl (by decide) h ?_
        intro h
        refine zb_let_ka h (zb_upK rfl (zb_i8P rfl)) ?_
        intro h
        refine zb_in_ok rfl (by decide) h ?_
        intro h
        refine zb_let_ka h (zb_upK rfl (zb_i8P rfl)) ?_
        intro h
        refine zb_in_ok rfl (by decide) h ?_
        intro h
        refine zb_let_ka h (zb_upK rfl (zb_i8P rfl)) ?_
        intro h
        refine zb_in_ok rfl (by decide) h ?_
        intro h
        refine zb_let_ka h (zb_upK rfl rfl) ?_
        intro h
        refine zb_let_k h (zb_addP rfl (rfl : (1 : Int32) = nI 1)) ?_
        intro h
        refine zb_let_k h (zb_addP rfl (rfl : (1 : Int32) = nI 1)) ?_
        intro h
        exact ih rfl h
noncomputable def zq_X_send_63 (kk : Nat → Nat → Nat → Nat → Nat → Nat → Nat → Nat → Nat → Nat → Nat → Nat → Nat → Nat → Nat → Nat → Nat → Nat → Nat → Nat → Nat → Nat → Nat → Nat → Nat → Nat → Nat → Nat → Nat → Nat → Nat → Nat → Bool) (x1 x2 x3 x4 z0 z1 f0_openSet f0_state f0_votes f0_heard f0_names f0_name f0_slot f0_parts f0_trouble f0_troubled f0_happened f0_commitCount f0_first f0_waiting f0_sent f0_lostCount a1 a2 a3 a4 a5 a6 a7 a8 a9 a10 a11 a12 a13 a14 a15 a16 : Nat) : Bool := (zb_let (Nat.add z1 z0) (fun f_4 => (zb_if (zb_eq x4 0) (zb_if (zb_eq f0_trouble 7) (zq_X_send_95 kk x1 x2 x3 2 f0_openSet f0_state f0_votes f0_heard f0_names f0_name f0_slot f0_parts f0_trouble f0_troubled f0_happened f0_commitCount f0_first f0_sent f_4 70 0 f0_waiting a1 a2 a3 a4 a5 a6 a7 a8 a9 a10 a11 a12 a13 a14 a15 a16) (zq_X_send_95 kk x1 x2 x3 1 f0_openSet f0_state f0_votes f0_heard f0_names f0_name f0_slot f0_parts f0_trouble f0_troubled f0_happened f0_commitCount f0_first f0_sent f_4 70 0 f0_waiting a1 a2 a3 a4 a5 a6 a7 a8 a9 a10 a11 a12 a13 a14 a15 a16)) (zq_X_send_95 kk x1 x2 x3 0 f0_openSet f0_state f0_votes f0_heard f0_names f0_name f0_slot f0_parts f0_trouble f0_troubled f0_happened f0_commitCount f0_first f0_sent f_4 70 0 f0_waiting a1 a2 a3 a4 a5 a6 a7 a8 a9 a10 a11 a12 a13 a14 a15 a16))))
theorem zr_X_send_63 {c : Nat} (hc : c ≤ 1023) {post : St2 → Prop} {kk : Nat → Nat → Nat → Nat → Nat → Nat → Nat → Nat → Nat → Nat → Nat → Nat → Nat → Nat → Nat → Nat → Nat → Nat → Nat → Nat → Nat → Nat → Nat → Nat → Nat → Nat → Nat → Nat → Nat → Nat → Nat → Nat → Bool} {x1 x2 x3 x4 z0 z1 f0_openSet f0_state f0_votes f0_heard f0_names f0_name f0_slot f0_parts f0_trouble f0_troubled f0_happened f0_commitCount f0_first f0_waiting f0_sent f0_lostCount a1 a2 a3 a4 a5 a6 a7 a8 a9 a10 a11 a12 a13 a14 a15 a16 : Nat} {X_x1 : Int32} (e_x1 : X_x1 = nI x1) {X_x2 : Int32} (e_x2 : X_x2 = nI x2) {X_x3 : Int32} (e_x3 : X_x3 = nI x3) {X_x4 : Int32} (e_x4 : X_x4 = nI x4) {X_z0 : Int32} (e_z0 : X_z0 = nI z0) {X_z1 : Int32} (e_z1 : X_z1 = nI z1) (h : zq_X_send_63 kk x1 x2 x3 x4 z0 z1 f0_openSet f0_state f0_votes f0_heard f0_names f0_name f0_slot f0_parts f0_trouble f0_troubled f0_happened f0_commitCount f0_first f0_waiting f0_sent f0_lostCount a1 a2 a3 a4 a5 a6 a7 a8 a9 a10 a11 a12 a13 a14 a15 a16 = true) (hk : ∀ {f1 f2 f3 f4 f5 f6 f7 f8 f9 f10 f11 f12 f13 f14 f15 f16 b1 b2 b3 b4 b5 b6 b7 b8 b9 b10 b11 b12 b13 b14 b15 b16 : Nat}, kk f1 f2 f3 f4 f5 f6 f7 f8 f9 f10 f11 f12 f13 f14 f15 f16 b1 b2 b3 b4 b5 b6 b7 b8 b9 b10 b11 b12 b13 b14 b15 b16 = true → post ((nI f1), (nI f2), (nI f3), (nI f4), (nI f5), (nI f6), (nI f7), (nI f8), (nI f9), (nI f10), (nI f11), (nI f12), (nI f13), (nI f14), (nI f15), (nI f16), (zb_va c b1), (zb_ka b2), (zb_ka b3), (zb_ka b4), (zb_ka b5), (zb_va c b6), (zb_va c b7), (zb_ka b8), (zb_ka b9), (zb_va c b10), (zb_ka b11), (zb_ka b12), (zb_ka b13), (zb_ka b14), (zb_ka b15), (zb_ka b16))) : wX_send_63 post X_x1 X_x2 X_x3 X_x4 X_z0 X_z1 (nI f0_openSet) (nI f0_state) (nI f0_votes) (nI f0_heard) (nI f0_names) (nI f0_name) (nI f0_slot) (nI f0_parts) (nI f0_trouble) (nI f0_troubled) (nI f0_happened) (nI f0_commitCount) (nI f0_first) (nI f0_waiting) (nI f0_sent) (nI f0_lostCount) (zb_va c a1) (zb_ka a2) (zb_ka a3) (zb_ka a4) (zb_ka a5) (zb_va c a6) (zb_va c a7) (zb_ka a8) (zb_ka a9) (zb_va c a10) (zb_ka a11) (zb_ka a12) (zb_ka a13) (zb_ka a14) (zb_ka a15) (zb_ka a16) := by
  subst e_x1
  subst e_x2
  subst e_x3
  subst e_x4
  subst e_z0
  subst e_z1
  unfold zq_X_send_63 at h
  unfold wX_send_63
  refine zb_let_k h (zb_addP rfl rfl) ?_
  intro h
  refine zb_if_ok (zb_eqP rfl (rfl : (0 : Int32) = nI 0)) h ?_ ?_
  · intro h
    refine zb_if_ok (zb_eqP rfl (rfl : (7 : Int32) = nI 7)) h ?_ ?_
    · intro h
      refine ⟨70, ?_⟩
      exact zr_X_send_95 hc hk rfl rfl rfl (rfl : (2 : Int32) = nI 2) _ (rfl : (0 : Int32) = nI 0) h
    · intro h
      refine ⟨70, ?_⟩
      exact zr_X_send_95 hc hk rfl rfl rfl (rfl : (1 : Int32) = nI 1) _ (rfl : (0 : Int32) = nI 0) h
  · intro h
    refine ⟨70, ?_⟩
    exact zr_X_send_95 hc hk rfl rfl rfl (rfl : (0 : Int32) = nI 0) _ (rfl : (0 : Int32) = nI 0) h
noncomputable def zq_X_send_46 (kk : Nat → Nat → Nat → Nat → Nat → Nat → Nat → Nat → Nat → Nat → Nat → Nat → Nat → Nat → Nat → Nat → Nat → Nat → Nat → Nat → Nat → Nat → Nat → Nat → Nat → Nat → Nat → Nat → Nat → Nat → Nat → Nat → Bool) (x1 x2 x3 z0 f0_openSet f0_state f0_votes f0_heard f0_names f0_name f0_slot f0_parts f0_trouble f0_troubled f0_happened f0_commitCount f0_first f0_waiting f0_sent f0_lostCount a1 a2 a3 a4 a5 a6 a7 a8 a9 a10 a11 a12 a13 a14 a15 a16 : Nat) : Bool := (zb_if (zb_eq z0 0) (zq_X_send_63 kk x1 x2 x3 z0 0 f0_lostCount f0_openSet f0_state f0_votes f0_heard f0_names f0_name f0_slot f0_parts f0_trouble f0_troubled f0_happened f0_commitCount f0_first f0_waiting f0_sent f0_lostCount a1 a2 a3 a4 a5 a6 a7 a8 a9 a10 a11 a12 a13 a14 a15 a16) (zq_X_send_63 kk x1 x2 x3 z0 1 f0_lostCount f0_openSet f0_state f0_votes f0_heard f0_names f0_name f0_slot f0_parts f0_trouble f0_troubled f0_happened f0_commitCount f0_first f0_waiting f0_sent f0_lostCount a1 a2 a3 a4 a5 a6 a7 a8 a9 a10 a11 a12 a13 a14 a15 a16))
theorem zr_X_send_46 {c : Nat} (hc : c ≤ 1023) {post : St2 → Prop} {kk : Nat → Nat → Nat → Nat → Nat → Nat → Nat → Nat → Nat → Nat → Nat → Nat → Nat → Nat → Nat → Nat → Nat → Nat → Nat → Nat → Nat → Nat → Nat → Nat → Nat → Nat → Nat → Nat → Nat → Nat → Nat → Nat → Bool} {x1 x2 x3 z0 f0_openSet f0_state f0_votes f0_heard f0_names f0_name f0_slot f0_parts f0_trouble f0_troubled f0_happened f0_commitCount f0_first f0_waiting f0_sent f0_lostCount a1 a2 a3 a4 a5 a6 a7 a8 a9 a10 a11 a12 a13 a14 a15 a16 : Nat} {X_x1 : Int32} (e_x1 : X_x1 = nI x1) {X_x2 : Int32} (e_x2 : X_x2 = nI x2) {X_x3 : Int32} (e_x3 : X_x3 = nI x3) {X_z0 : Int32} (e_z0 : X_z0 = nI z0) (h : zq_X_send_46 kk x1 x2 x3 z0 f0_openSet f0_state f0_votes f0_heard f0_names f0_name f0_slot f0_parts f0_trouble f0_troubled f0_happened f0_commitCount f0_first f0_waiting f0_sent f0_lostCount a1 a2 a3 a4 a5 a6 a7 a8 a9 a10 a11 a12 a13 a14 a15 a16 = true) (hk : ∀ {f1 f2 f3 f4 f5 f6 f7 f8 f9 f10 f11 f12 f13 f14 f15 f16 b1 b2 b3 b4 b5 b6 b7 b8 b9 b10 b11 b12 b13 b14 b15 b16 : Nat}, kk f1 f2 f3 f4 f5 f6 f7 f8 f9 f10 f11 f12 f13 f14 f15 f16 b1 b2 b3 b4 b5 b6 b7 b8 b9 b10 b11 b12 b13 b14 b15 b16 = true → post ((nI f1), (nI f2), (nI f3), (nI f4), (nI f5), (nI f6), (nI f7), (nI f8), (nI f9), (nI f10), (nI f11), (nI f12), (nI f13), (nI f14), (nI f15), (nI f16), (zb_va c b1), (zb_ka b2), (zb_ka b3), (zb_ka b4), (zb_ka b5), (zb_va c b6), (zb_va c b7), (zb_ka b8), (zb_ka b9), (zb_va c b10), (zb_ka b11), (zb_ka b12), (zb_ka b13), (zb_ka b14), (zb_ka b15), (zb_ka b16))) : wX_send_46 post X_x1 X_x2 X_x3 X_z0 (nI f0_openSet) (nI f0_state) (nI f0_votes) (nI f0_heard) (nI f0_names) (nI f0_name) (nI f0_slot) (nI f0_parts) (nI f0_trouble) (nI f0_troubled) (nI f0_happened) (nI f0_commitCount) (nI f0_first) (nI f0_waiting) (nI f0_sent) (nI f0_lostCount) (zb_va c a1) (zb_ka a2) (zb_ka a3) (zb_ka a4) (zb_ka a5) (zb_va c a6) (zb_va c a7) (zb_ka a8) (zb_ka a9) (zb_va c a10) (zb_ka a11) (zb_ka a12) (zb_ka a13) (zb_ka a14) (zb_ka a15) (zb_ka a16) := by
  subst e_x1
  subst e_x2
  subst e_x3
  subst e_z0
  unfold zq_X_send_46 at h
  unfold wX_send_46
  refine zb_if_ok (zb_eqP rfl (rfl : (0 : Int32) = nI 0)) h ?_ ?_
  · intro h
    exact zr_X_send_63 hc rfl rfl rfl rfl (rfl : (0 : Int32) = nI 0) rfl h hk
  · intro h
    exact zr_X_send_63 hc rfl rfl rfl rfl (rfl : (1 : Int32) = nI 1) rfl h hk
noncomputable def zq_X_send_45 (kk : Nat → Nat → Nat → Nat → Nat → Nat → Nat → Nat → Nat → Nat → Nat → Nat → Nat → Nat → Nat → Nat → Nat → Nat → Nat → Nat → Nat → Nat → Nat → Nat → Nat → Nat → Nat → Nat → Nat → Nat → Nat → Nat → Bool) (x1 x2 x3 f0_openSet f0_state f0_votes f0_heard f0_names f0_name f0_slot f0_parts f0_trouble f0_troubled f0_happened f0_commitCount f0_first f0_waiting f0_sent f0_lostCount a1 a2 a3 a4 a5 a6 a7 a8 a9 a10 a11 a12 a13 a14 a15 a16 : Nat) : Bool := (zq_X_send_46 kk x1 x2 x3 0 f0_openSet f0_state f0_votes f0_heard f0_names f0_name f0_slot f0_parts f0_trouble f0_troubled f0_happened f0_commitCount f0_first f0_waiting f0_sent f0_lostCount a1 a2 a3 a4 a5 a6 a7 a8 a9 a10 a11 a12 a13 a14 a15 a16)
theorem zr_X_send_45 {c : Nat} (hc : c ≤ 1023) {post : St2 → Prop} {kk : Nat → Nat → Nat → Nat → Nat → Nat → Nat → Nat → Nat → Nat → Nat → Nat → Nat → Nat → Nat → Nat → Nat → Nat → Nat → Nat → Nat → Nat → Nat → Nat → Nat → Nat → Nat → Nat → Nat → Nat → Nat → Nat → Bool} {x1 x2 x3 f0_openSet f0_state f0_votes f0_heard f0_names f0_name f0_slot f0_parts f0_trouble f0_troubled f0_happened f0_commitCount f0_first f0_waiting f0_sent f0_lostCount a1 a2 a3 a4 a5 a6 a7 a8 a9 a10 a11 a12 a13 a14 a15 a16 : Nat} {X_x1 : Int32} (e_x1 : X_x1 = nI x1) {X_x2 : Int32} (e_x2 : X_x2 = nI x2) {X_x3 : Int32} (e_x3 : X_x3 = nI x3) (h : zq_X_send_45 kk x1 x2 x3 f0_openSet f0_state f0_votes f0_heard f0_names f0_name f0_slot f0_parts f0_trouble f0_troubled f0_happened f0_commitCount f0_first f0_waiting f0_sent f0_lostCount a1 a2 a3 a4 a5 a6 a7 a8 a9 a10 a11 a12 a13 a14 a15 a16 = true) (hk : ∀ {f1 f2 f3 f4 f5 f6 f7 f8 f9 f10 f11 f12 f13 f14 f15 f16 b1 b2 b3 b4 b5 b6 b7 b8 b9 b10 b11 b12 b13 b14 b15 b16 : Nat}, kk f1 f2 f3 f4 f5 f6 f7 f8 f9 f10 f11 f12 f13 f14 f15 f16 b1 b2 b3 b4 b5 b6 b7 b8 b9 b10 b11 b12 b13 b14 b15 b16 = true → post ((nI f1), (nI f2), (nI f3), (nI f4), (nI f5), (nI f6), (nI f7), (nI f8), (nI f9), (nI f10), (nI f11), (nI f12), (nI f13), (nI f14), (nI f15), (nI f16), (zb_va c b1), (zb_ka b2), (zb_ka b3), (zb_ka b4), (zb_ka b5), (zb_va c b6), (zb_va c b7), (zb_ka b8), (zb_ka b9), (zb_va c b10), (zb_ka b11), (zb_ka b12), (zb_ka b13), (zb_ka b14), (zb_ka b15), (zb_ka b16))) : wX_send_45 post X_x1 X_x2 X_x3 (nI f0_openSet) (nI f0_state) (nI f0_votes) (nI f0_heard) (nI f0_names) (nI f0_name) (nI f0_slot) (nI f0_parts) (nI f0_trouble) (nI f0_troubled) (nI f0_happened) (nI f0_commitCount) (nI f0_first) (nI f0_waiting) (nI f0_sent) (nI f0_lostCount) (zb_va c a1) (zb_ka a2) (zb_ka a3) (zb_ka a4) (zb_ka a5) (zb_va c a6) (zb_va c a7) (zb_ka a8) (zb_ka a9) (zb_va c a10) (zb_ka a11) (zb_ka a12) (zb_ka a13) (zb_ka a14) (zb_ka a15) (zb_ka a16) := by
  subst e_x1
  subst e_x2
  subst e_x3
  unfold zq_X_send_45 at h
  unfold wX_send_45
  exact zr_X_send_46 hc rfl rfl rfl (rfl : (0 : Int32) = nI 0) h hk
noncomputable def zq_pX_send (kk : Nat → Nat → Nat → Nat → Nat → Nat → Nat → Nat → Nat → Nat → Nat → Nat → Nat → Nat → Nat → Nat → Nat → Nat → Nat → Nat → Nat → Nat → Nat → Nat → Nat → Nat → Nat → Nat → Nat → Nat → Nat → Nat → Bool) (f0_openSet f0_state f0_votes f0_heard f0_names f0_name f0_slot f0_parts f0_trouble f0_troubled f0_happened f0_commitCount f0_first f0_waiting f0_sent f0_lostCount a1 a2 a3 a4 a5 a6 a7 a8 a9 a10 a11 a12 a13 a14 a15 a16 p0 p1 p2 : Nat) : Bool := (zb_let (Nat.add f0_sent 1) (fun f_1 => (zb_if (zb_eq f0_trouble 6) (zb_if (zb_le 10 f0_lostCount) (zq_X_send_45 kk p0 p1 p2 f0_openSet f0_state f0_votes f0_heard f0_names f0_name f0_slot f0_parts f0_trouble f0_troubled f0_happened f0_commitCount f0_first f0_waiting f_1 f0_lostCount a1 a2 a3 a4 a5 a6 a7 a8 a9 a10 a11 a12 a13 a14 a15 a16) (zb_g (zb_nn (Nat.mul f_1 7)) (zb_if (zb_le 3 (zb_rem (Nat.mul f_1 7) 5)) (zq_X_send_45 kk p0 p1 p2 f0_openSet f0_state f0_votes f0_heard f0_names f0_name f0_slot f0_parts f0_trouble f0_troubled f0_happened f0_commitCount f0_first f0_waiting f_1 f0_lostCount a1 a2 a3 a4 a5 a6 a7 a8 a9 a10 a11 a12 a13 a14 a15 a16) (zq_X_send_46 kk p0 p1 p2 1 f0_openSet f0_state f0_votes f0_heard f0_names f0_name f0_slot f0_parts f0_trouble f0_troubled f0_happened f0_commitCount f0_first f0_waiting f_1 f0_lostCount a1 a2 a3 a4 a5 a6 a7 a8 a9 a10 a11 a12 a13 a14 a15 a16)))) (zq_X_send_45 kk p0 p1 p2 f0_openSet f0_state f0_votes f0_heard f0_names f0_name f0_slot f0_parts f0_trouble f0_troubled f0_happened f0_commitCount f0_first f0_waiting f_1 f0_lostCount a1 a2 a3 a4 a5 a6 a7 a8 a9 a10 a11 a12 a13 a14 a15 a16))))
theorem zr_pX_send {c : Nat} (hc : c ≤ 1023) {post : St2 → Prop} {kk : Nat → Nat → Nat → Nat → Nat → Nat → Nat → Nat → Nat → Nat → Nat → Nat → Nat → Nat → Nat → Nat → Nat → Nat → Nat → Nat → Nat → Nat → Nat → Nat → Nat → Nat → Nat → Nat → Nat → Nat → Nat → Nat → Bool} {f0_openSet f0_state f0_votes f0_heard f0_names f0_name f0_slot f0_parts f0_trouble f0_troubled f0_happened f0_commitCount f0_first f0_waiting f0_sent f0_lostCount a1 a2 a3 a4 a5 a6 a7 a8 a9 a10 a11 a12 a13 a14 a15 a16 p0 p1 p2 : Nat} {X_p0 : Int32} (e_p0 : X_p0 = nI p0) {X_p1 : Int32} (e_p1 : X_p1 = nI p1) {X_p2 : Int32} (e_p2 : X_p2 = nI p2) (h : zq_pX_send kk f0_openSet f0_state f0_votes f0_heard f0_names f0_name f0_slot f0_parts f0_trouble f0_troubled f0_happened f0_commitCount f0_first f0_waiting f0_sent f0_lostCount a1 a2 a3 a4 a5 a6 a7 a8 a9 a10 a11 a12 a13 a14 a15 a16 p0 p1 p2 = true) (hk : ∀ {f1 f2 f3 f4 f5 f6 f7 f8 f9 f10 f11 f12 f13 f14 f15 f16 b1 b2 b3 b4 b5 b6 b7 b8 b9 b10 b11 b12 b13 b14 b15 b16 : Nat}, kk f1 f2 f3 f4 f5 f6 f7 f8 f9 f10 f11 f12 f13 f14 f15 f16 b1 b2 b3 b4 b5 b6 b7 b8 b9 b10 b11 b12 b13 b14 b15 b16 = true → post ((nI f1), (nI f2), (nI f3), (nI f4), (nI f5), (nI f6), (nI f7), (nI f8), (nI f9), (nI f10), (nI f11), (nI f12), (nI f13), (nI f14), (nI f15), (nI f16), (zb_va c b1), (zb_ka b2), (zb_ka b3), (zb_ka b4), (zb_ka b5), (zb_va c b6), (zb_va c b7), (zb_ka b8), (zb_ka b9), (zb_va c b10), (zb_ka b11), (zb_ka b12), (zb_ka b13), (zb_ka b14), (zb_ka b15), (zb_ka b16))) : wpX_send post ((nI f0_openSet), (nI f0_state), (nI f0_votes), (nI f0_heard), (nI f0_names), (nI f0_name), (nI f0_slot), (nI f0_parts), (nI f0_trouble), (nI f0_troubled), (nI f0_happened), (nI f0_commitCount), (nI f0_first), (nI f0_waiting), (nI f0_sent), (nI f0_lostCount), (zb_va c a1), (zb_ka a2), (zb_ka a3), (zb_ka a4), (zb_ka a5), (zb_va c a6), (zb_va c a7), (zb_ka a8), (zb_ka a9), (zb_va c a10), (zb_ka a11), (zb_ka a12), (zb_ka a13), (zb_ka a14), (zb_ka a15), (zb_ka a16)) X_p0 X_p1 X_p2 := by
  subst e_p0
  subst e_p1
  subst e_p2
  unfold zq_pX_send at h
  unfold wpX_send
  refine zb_let_k h (zb_addP rfl (rfl : (1 : Int32) = nI 1)) ?_
  intro h
  refine zb_if_ok (zb_eqP rfl (rfl : (6 : Int32) = nI 6)) h ?_ ?_
  · intro h
    refine zb_if_ok (zb_leP (rfl : (10 : Int32) = nI 10) rfl) h ?_ ?_
    · intro h
      exact zr_X_send_45 hc rfl rfl rfl h hk
    · intro h
      refine ⟨by decide, ?_⟩
      refine zb_g_ok h ?_
      intro g1 h
      refine zb_if_ok (zb_leP (rfl : (3 : Int32) = nI 3) (zb_remP g1 (zb_mulP rfl (rfl : (7 : Int32) = nI 7)) (rfl : (5 : Int32) = nI 5))) h ?_ ?_
      · intro h
        exact zr_X_send_45 hc rfl rfl rfl h hk
      · intro h
        exact zr_X_send_46 hc rfl rfl rfl (rfl : (1 : Int32) = nI 1) h hk
  · intro h
    exact zr_X_send_45 hc rfl rfl rfl h hk
noncomputable def zq_pX_askOrRefuse (kk : Nat → Nat → Nat → Nat → Nat → Nat → Nat → Nat → Nat → Nat → Nat → Nat → Nat → Nat → Nat → Nat → Nat → Nat → Nat → Nat → Nat → Nat → Nat → Nat → Nat → Nat → Nat → Nat → Nat → Nat → Nat → Nat → Bool) (f0_openSet f0_state f0_votes f0_heard f0_names f0_name f0_slot f0_parts f0_trouble f0_troubled f0_happened f0_commitCount f0_first f0_waiting f0_sent f0_lostCount a1 a2 a3 a4 a5 a6 a7 a8 a9 a10 a11 a12 a13 a14 a15 a16 p0 : Nat) : Bool := (zb_in (Nat.add (Nat.mul f0_slot 3) p0) 12 (zb_if (zb_eq (zb_rd a11 (Nat.add (Nat.mul f0_slot 3) p0)) f0_name) (zq_pX_send (fun f0_openSet_69 f0_state_70 f0_votes_71 f0_heard_72 f0_names_73 f0_name_74 f0_slot_75 f0_parts_76 f0_trouble_77 f0_troubled_78 f0_happened_79 f0_commitCount_80 f0_first_81 f0_waiting_82 f0_sent_83 f0_lostCount_84 am251_87 am252_90 am253_93 am254_96 am255_99 am256_102 am257_105 am258_108 am259_111 am2510_114 am2511_117 am2512_120 am2513_123 am2514_126 am2515_129 am2516_132 => (kk f0_openSet_69 f0_state_70 f0_votes_71 f0_heard_72 f0_names_73 f0_name_74 f0_slot_75 f0_parts_76 f0_trouble_77 f0_troubled_78 f0_happened_79 f0_commitCount_80 f0_first_81 f0_waiting_82 f0_sent_83 f0_lostCount_84 am251_87 am252_90 am253_93 am254_96 am255_99 am256_102 am257_105 am258_108 am259_111 am2510_114 am2511_117 am2512_120 am2513_123 am2514_126 am2515_129 am2516_132)) f0_openSet f0_state f0_votes f0_heard f0_names f0_name f0_slot f0_parts f0_trouble f0_troubled f0_happened f0_commitCount f0_first f0_waiting f0_sent f0_lostCount a1 a2 a3 a4 a5 a6 a7 a8 a9 a10 a11 a12 a13 a14 a15 a16 7 p0 3) (zq_pX_send (fun f0_openSet_4 f0_state_5 f0_votes_6 f0_heard_7 f0_names_8 f0_name_9 f0_slot_10 f0_parts_11 f0_trouble_12 f0_troubled_13 f0_happened_14 f0_commitCount_15 f0_first_16 f0_waiting_17 f0_sent_18 f0_lostCount_19 am351_22 am352_25 am353_28 am354_31 am355_34 am356_37 am357_40 am358_43 am359_46 am3510_49 am3511_52 am3512_55 am3513_58 am3514_61 am3515_64 am3516_67 => (kk f0_openSet_4 f0_state_5 f0_votes_6 f0_heard_7 f0_names_8 f0_name_9 f0_slot_10 f0_parts_11 f0_trouble_12 f0_troubled_13 f0_happened_14 f0_commitCount_15 f0_first_16 f0_waiting_17 f0_sent_18 f0_lostCount_19 am351_22 am352_25 am353_28 am354_31 am355_34 am356_37 am357_40 am358_43 am359_46 am3510_49 am3511_52 am3512_55 am3513_58 am3514_61 am3515_64 am3516_67)) f0_openSet f0_state f0_votes f0_heard f0_names f0_name f0_slot f0_parts f0_trouble f0_troubled f0_happened f0_commitCount f0_first f0_waiting f0_sent f0_lostCount a1 a2 a3 a4 a5 a6 a7 a8 a9 a10 a11 a12 a13 a14 a15 a16 5 3 p0)))
theorem zr_pX_askOrRefuse {c : Nat} (hc : c ≤ 1023) {post : St2 → Prop} {kk : Nat → Nat → Nat → Nat → Nat → Nat → Nat → Nat → Nat → Nat → Nat → Nat → Nat → Nat → Nat → Nat → Nat → Nat → Nat → Nat → Nat → Nat → Nat → Nat → Nat → Nat → Nat → Nat → Nat → Nat → Nat → Nat → Bool} {f0_openSet f0_state f0_votes f0_heard f0_names f0_name f0_slot f0_parts f0_trouble f0_troubled f0_happened f0_commitCount f0_first f0_waiting f0_sent f0_lostCount a1 a2 a3 a4 a5 a6 a7 a8 a9 a10 a11 a12 a13 a14 a15 a16 p0 : Nat} {X_p0 : Int32} (e_p0 : X_p0 = nI p0) (h : zq_pX_askOrRefuse kk f0_openSet f0_state f0_votes f0_heard f0_names f0_name f0_slot f0_parts f0_trouble f0_troubled f0_happened f0_commitCount f0_first f0_waiting f0_sent f0_lostCount a1 a2 a3 a4 a5 a6 a7 a8 a9 a10 a11 a12 a13 a14 a15 a16 p0 = true) (hk : ∀ {f1 f2 f3 f4 f5 f6 f7 f8 f9 f10 f11 f12 f13 f14 f15 f16 b1 b2 b3 b4 b5 b6 b7 b8 b9 b10 b11 b12 b13 b14 b15 b16 : Nat}, kk f1 f2 f3 f4 f5 f6 f7 f8 f9 f10 f11 f12 f13 f14 f15 f16 b1 b2 b3 b4 b5 b6 b7 b8 b9 b10 b11 b12 b13 b14 b15 b16 = true → post ((nI f1), (nI f2), (nI f3), (nI f4), (nI f5), (nI f6), (nI f7), (nI f8), (nI f9), (nI f10), (nI f11), (nI f12), (nI f13), (nI f14), (nI f15), (nI f16), (zb_va c b1), (zb_ka b2), (zb_ka b3), (zb_ka b4), (zb_ka b5), (zb_va c b6), (zb_va c b7), (zb_ka b8), (zb_ka b9), (zb_va c b10), (zb_ka b11), (zb_ka b12), (zb_ka b13), (zb_ka b14), (zb_ka b15), (zb_ka b16))) : wpX_askOrRefuse post ((nI f0_openSet), (nI f0_state), (nI f0_votes), (nI f0_heard), (nI f0_names), (nI f0_name), (nI f0_slot), (nI f0_parts), (nI f0_trouble), (nI f0_troubled), (nI f0_happened), (nI f0_commitCount), (nI f0_first), (nI f0_waiting), (nI f0_sent), (nI f0_lostCount), (zb_va c a1), (zb_ka a2), (zb_ka a3), (zb_ka a4), (zb_ka a5), (zb_va c a6), (zb_va c a7), (zb_ka a8), (zb_ka a9), (zb_va c a10), (zb_ka a11), (zb_ka a12), (zb_ka a13), (zb_ka a14), (zb_ka a15), (zb_ka a16)) X_p0 := by
  subst e_p0
  unfold zq_pX_askOrRefuse at h
  unfold wpX_askOrRefuse
  refine zb_in_ok (zb_addP (zb_mulP rfl (rfl : (3 : Int32) = nI 3)) rfl) (by decide) h ?_
  intro h
  refine zb_if_ok (zb_eqP (zb_rdK (zb_addP (zb_mulP rfl (rfl : (3 : Int32) = nI 3)) rfl)) rfl) h ?_ ?_
  · intro h
    refine zr_pX_send hc (rfl : (7 : Int32) = nI 7) rfl (rfl : (3 : Int32) = nI 3) h ?_
    intro f0_openSet_69 f0_state_70 f0_votes_71 f0_heard_72 f0_names_73 f0_name_74 f0_slot_75 f0_parts_76 f0_trouble_77 f0_troubled_78 f0_happened_79 f0_commitCount_80 f0_first_81 f0_waiting_82 f0_sent_83 f0_lostCount_84 am251_87 am252_90 am253_93 am254_96 am255_99 am256_102 am257_105 am258_108 am259_111 am2510_114 am2511_117 am2512_120 am2513_123 am2514_126 am2515_129 am2516_132 h
    exact hk h
  · intro h
    refine zr_pX_send hc (rfl : (5 : Int32) = nI 5) (rfl : (3 : Int32) = nI 3) rfl h ?_
    intro f0_openSet_4 f0_state_5 f0_votes_6 f0_heard_7 f0_names_8 f0_name_9 f0_slot_10 f0_parts_11 f0_trouble_12 f0_troubled_13 f0_happened_14 f0_commitCount_15 f0_first_16 f0_waiting_17 f0_sent_18 f0_lostCount_19 am351_22 am352_25 am353_28 am354_31 am355_34 am356_37 am357_40 am358_43 am359_46 am3510_49 am3511_52 am3512_55 am3513_58 am3514_61 am3515_64 am3516_67 h
    exact hk h
end
section
noncomputable def zq_X_remind_95 (kk : Nat → Nat → Nat → Nat → Nat → Nat → Nat → Nat → Nat → Nat → Nat → Nat → Nat → Nat → Nat → Nat → Nat → Nat → Nat → Nat → Nat → Nat → Nat → Nat → Nat → Nat → Nat → Nat → Nat → Nat → Nat → Nat → Bool) (kJ : Nat → Nat → Nat → Nat → Nat → Nat → Nat → Nat → Nat → Nat → Nat → Nat → Nat → Nat → Nat → Nat → Nat → Nat → Nat → Nat → Nat → Nat → Nat → Nat → Nat → Nat → Nat → Nat → Nat → Nat → Nat → Nat → Nat → Bool) (x1 x3 f0_openSet f0_state f0_votes f0_heard f0_names f0_name f0_slot f0_parts f0_trouble f0_troubled f0_happened f0_commitCount f0_first f0_waiting f0_sent f0_lostCount a1 a2 a3 a4 a5 a6 a7 a8 a9 a10 a11 a12 a13 a14 a15 a16 : Nat) : Bool := (zq_pX_isPart (fun r_8 => (zb_if (zb_eq r_8 0) (zb_let (Nat.add x1 1) (fun x1_10 => (kJ x1_10 f0_openSet f0_state f0_votes f0_heard f0_names f0_name f0_slot f0_parts f0_trouble f0_troubled f0_happened f0_commitCount f0_first f0_waiting f0_sent f0_lostCount a1 a2 a3 a4 a5 a6 a7 a8 a9 a10 a11 a12 a13 a14 a15 a16))) (zb_if (zb_eq f0_state 3) (zb_if (zb_eq x3 0) (zq_pX_askOrRefuse (fun f0_openSet_16 f0_state_17 f0_votes_18 f0_heard_19 f0_names_20 f0_name_21 f0_slot_22 f0_parts_23 f0_trouble_24 f0_troubled_25 f0_happened_26 f0_commitCount_27 f0_first_28 f0_waiting_29 f0_sent_30 f0_lostCount_31 am1171_34 am1172_37 am1173_40 am1174_43 am1175_46 am1176_49 am1177_52 am1178_55 am1179_58 am11710_61 am11711_64 am11712_67 am11713_70 am11714_73 am11715_76 am11716_79 => (zb_let (Nat.add x1 1) (fun x1_80 => (kJ x1_80 f0_openSet_16 f0_state_17 f0_votes_18 f0_heard_19 f0_names_20 f0_name_21 f0_slot_22 f0_parts_23 f0_trouble_24 f0_troubled_25 f0_happened_26 f0_commitCount_27 f0_first_28 f0_waiting_29 f0_sent_30 f0_lostCount_31 am1171_34 am1172_37 am1173_40 am1174_43 am1175_46 am1176_49 am1177_52 am1178_55 am1179_58 am11710_61 am11711_64 am11712_67 am11713_70 am11714_73 am11715_76 am11716_79)))) f0_openSet f0_state f0_votes f0_heard f0_names f0_name f0_slot f0_parts f0_trouble f0_troubled f0_happened f0_commitCount f0_first f0_waiting f0_sent f0_lostCount a1 a2 a3 a4 a5 a6 a7 a8 a9 a10 a11 a12 a13 a14 a15 a16 x1) (zb_let (Nat.add x1 1) (fun x1_14 => (kJ x1_14 f0_openSet f0_state f0_votes f0_heard f0_names f0_name f0_slot f0_parts f0_trouble f0_troubled f0_happened f0_commitCount f0_first f0_waiting f0_sent f0_lostCount a1 a2 a3 a4 a5 a6 a7 a8 a9 a10 a11 a12 a13 a14 a15 a16)))) (zb_let (Nat.add x1 1) (fun x1_12 => (kJ x1_12 f0_openSet f0_state f0_votes f0_heard f0_names f0_name f0_slot f0_parts f0_trouble f0_troubled f0_happened f0_commitCount f0_first f0_waiting f0_sent f0_lostCount a1 a2 a3 a4 a5 a6 a7 a8 a9 a10 a11 a12 a13 a14 a15 a16)))))) f0_openSet f0_state f0_votes f0_heard f0_names f0_name f0_slot f0_parts f0_trouble f0_troubled f0_happened f0_commitCount f0_first f0_waiting f0_sent f0_lostCount a1 a2 a3 a4 a5 a6 a7 a8 a9 a10 a11 a12 a13 a14 a15 a16 x1)
theorem zr_X_remind_95 {c : Nat} (hc : c ≤ 1023) {post : St2 → Prop} {kk : Nat → Nat → Nat → Nat → Nat → Nat → Nat → Nat → Nat → Nat → Nat → Nat → Nat → Nat → Nat → Nat → Nat → Nat → Nat → Nat → Nat → Nat → Nat → Nat → Nat → Nat → Nat → Nat → Nat → Nat → Nat → Nat → Bool} {J : Int32 → Int32 → Int32 → Int32 → Int32 → Int32 → Int32 → Int32 → Int32 → Int32 → Int32 → Int32 → Int32 → Int32 → Int32 → Int32 → Int32 → (Nat → Int32) → (Nat → Int32) → (Nat → Int32) → (Nat → Int32) → (Nat → Int32) → (Nat → Int32) → (Nat → Int32) → (Nat → Int32) → (Nat → Int32) → (Nat → Int32) → (Nat → Int32) → (Nat → Int32) → (Nat → Int32) → (Nat → Int32) → (Nat → Int32) → (Nat → Int32) → Prop} {kJ : Nat → Nat → Nat → Nat → Nat → Nat → Nat → Nat → Nat → Nat → Nat → Nat → Nat → Nat → Nat → Nat → Nat → Nat → Nat → Nat → Nat → Nat → Nat → Nat → Nat → Nat → Nat → Nat → Nat → Nat → Nat → Nat → Nat → Bool} {x1 x3 f0_openSet f0_state f0_votes f0_heard f0_names f0_name f0_slot f0_parts f0_trouble f0_troubled f0_happened f0_commitCount f0_first f0_waiting f0_sent f0_lostCount a1 a2 a3 a4 a5 a6 a7 a8 a9 a10 a11 a12 a13 a14 a15 a16 : Nat} {X_x1 : Int32} (e_x1 : X_x1 = nI x1) {X_x3 : Int32} (e_x3 : X_x3 = nI x3) (h : zq_X_remind_95 kk kJ x1 x3 f0_openSet f0_state f0_votes f0_heard f0_names f0_name f0_slot f0_parts f0_trouble f0_troubled f0_happened f0_commitCount f0_first f0_waiting f0_sent f0_lostCount a1 a2 a3 a4 a5 a6 a7 a8 a9 a10 a11 a12 a13 a14 a15 a16 = true) (hJ : ∀ {x1_ f0_openSet_ f0_state_ f0_votes_ f0_heard_ f0_names_ f0_name_ f0_slot_ f0_parts_ f0_trouble_ f0_troubled_ f0_happened_ f0_commitCount_ f0_first_ f0_waiting_ f0_sent_ f0_lostCount_ a1_ a2_ a3_ a4_ a5_ a6_ a7_ a8_ a9_ a10_ a11_ a12_ a13_ a14_ a15_ a16_ : Nat}, kJ x1_ f0_openSet_ f0_state_ f0_votes_ f0_heard_ f0_names_ f0_name_ f0_slot_ f0_parts_ f0_trouble_ f0_troubled_ f0_happened_ f0_commitCount_ f0_first_ f0_waiting_ f0_sent_ f0_lostCount_ a1_ a2_ a3_ a4_ a5_ a6_ a7_ a8_ a9_ a10_ a11_ a12_ a13_ a14_ a15_ a16_ = true → J (nI x1_) (nI f0_openSet_) (nI f0_state_) (nI f0_votes_) (nI f0_heard_) (nI f0_names_) (nI f0_name_) (nI f0_slot_) (nI f0_parts_) (nI f0_trouble_) (nI f0_troubled_) (nI f0_happened_) (nI f0_commitCount_) (nI f0_first_) (nI f0_waiting_) (nI f0_sent_) (nI f0_lostCount_) (zb_va c a1_) (zb_ka a2_) (zb_ka a3_) (zb_ka a4_) (zb_ka a5_) (zb_va c a6_) (zb_va c a7_) (zb_ka a8_) (zb_ka a9_) (zb_va c a10_) (zb_ka a11_) (zb_ka a12_) (zb_ka a13_) (zb_ka a14_) (zb_ka a15_) (zb_ka a16_)) (hk : ∀ {f1 f2 f3 f4 f5 f6 f7 f8 f9 f10 f11 f12 f13 f14 f15 f16 b1 b2 b3 b4 b5 b6 b7 b8 b9 b10 b11 b12 b13 b14 b15 b16 : Nat}, kk f1 f2 f3 f4 f5 f6 f7 f8 f9 f10 f11 f12 f13 f14 f15 f16 b1 b2 b3 b4 b5 b6 b7 b8 b9 b10 b11 b12 b13 b14 b15 b16 = true → post ((nI f1), (nI f2), (nI f3), (nI f4), (nI f5), (nI f6), (nI f7), (nI f8), (nI f9), (nI f10), (nI f11), (nI f12), (nI f13), (nI f14), (nI f15), (nI f16), (zb_va c b1), (zb_ka b2), (zb_ka b3), (zb_ka b4), (zb_ka b5), (zb_va c b6), (zb_va c b7), (zb_ka b8), (zb_ka b9), (zb_va c b10), (zb_ka b11), (zb_ka b12), (zb_ka b13), (zb_ka b14), (zb_ka b15), (zb_ka b16))) : wX_remind_95 post J X_x1 X_x3 (nI f0_openSet) (nI f0_state) (nI f0_votes) (nI f0_heard) (nI f0_names) (nI f0_name) (nI f0_slot) (nI f0_parts) (nI f0_trouble) (nI f0_troubled) (nI f0_happened) (nI f0_commitCount) (nI f0_first) (nI f0_waiting) (nI f0_sent) (nI f0_lostCount) (zb_va c a1) (zb_ka a2) (zb_ka a3) (zb_ka a4) (zb_ka a5) (zb_va c a6) (zb_va c a7) (zb_ka a8) (zb_ka a9) (zb_va c a10) (zb_ka a11) (zb_ka a12) (zb_ka a13) (zb_ka a14) (zb_ka a15) (zb_ka a16) := by
  subst e_x1
  subst e_x3
  unfold zq_X_remind_95 at h
  unfold wX_remind_95
  refine zr_pX_isPart hc rfl h ?_
  intro r_8 R_ eR_ h
  subst eR_
  refine zb_if_ok (zb_eqP rfl (rfl : (0 : Int32) = nI 0)) h ?_ ?_
  · intro h
    refine zb_let_k h (zb_addP rfl (rfl : (1 : Int32) = nI 1)) ?_
    intro h
    exact hJ h
  · intro h
    refine zb_if_ok (zb_eqP rfl (rfl : (3 : Int32) = nI 3)) h ?_ ?_
    · intro h
      refine zb_if_ok (zb_eqP rfl (rfl : (0 : Int32) = nI 0)) h ?_ ?_
      · intro h
        refine zr_pX_askOrRefuse hc rfl h ?_
        intro f0_openSet_16 f0_state_17 f0_votes_18 f0_heard_19 f0_names_20 f0_name_21 f0_slot_22 f0_parts_23 f0_trouble_24 f0_troubled_25 f0_happened_26 f0_commitCount_27 f0_first_28 f0_waiting_29 f0_sent_30 f0_lostCount_31 am1171_34 am1172_37 am1173_40 am1174_43 am1175_46 am1176_49 am1177_52 am1178_55 am1179_58 am11710_61 am11711_64 am11712_67 am11713_70 am11714_73 am11715_76 am11716_79 h
        refine zb_let_k h (zb_addP rfl (rfl : (1 : Int32) = nI 1)) ?_
        intro h
        exact hJ h
      · intro h
        refine zb_let_k h (zb_addP rfl (rfl : (1 : Int32) = nI 1)) ?_
        intro h
        exact hJ h
    · intro h
      refine zb_let_k h (zb_addP rfl (rfl : (1 : Int32) = nI 1)) ?_
      intro h
      exact hJ h
noncomputable def zq_X_remind_68 (kk : Nat → Nat → Nat → Nat → Nat → Nat → Nat → Nat → Nat → Nat → Nat → Nat → Nat → Nat → Nat → Nat → Nat → Nat → Nat → Nat → Nat → Nat → Nat → Nat → Nat → Nat → Nat → Nat → Nat → Nat → Nat → Nat → Bool) (kJ : Nat → Nat → Nat → Nat → Nat → Nat → Nat → Nat → Nat → Nat → Nat → Nat → Nat → Nat → Nat → Nat → Nat → Nat → Nat → Nat → Nat → Nat → Nat → Nat → Nat → Nat → Nat → Nat → Nat → Nat → Nat → Nat → Nat → Bool) (x1 x3 f0_openSet f0_state f0_votes f0_heard f0_names f0_name f0_slot f0_parts f0_trouble f0_troubled f0_happened f0_commitCount f0_first f0_waiting f0_sent f0_lostCount a1 a2 a3 a4 a5 a6 a7 a8 a9 a10 a11 a12 a13 a14 a15 a16 : Nat) : Bool := (zq_pX_isPart (fun r_6 => (zb_if (zb_eq r_6 0) (zq_X_remind_95 kk kJ x1 x3 f0_openSet f0_state f0_votes f0_heard f0_names f0_name f0_slot f0_parts f0_trouble f0_troubled f0_happened f0_commitCount f0_first f0_waiting f0_sent f0_lostCount a1 a2 a3 a4 a5 a6 a7 a8 a9 a10 a11 a12 a13 a14 a15 a16) (zb_if (zb_eq f0_state 2) (zb_if (zb_eq x3 0) (zq_pX_send (fun f0_openSet_84 f0_state_85 f0_votes_86 f0_heard_87 f0_names_88 f0_name_89 f0_slot_90 f0_parts_91 f0_trouble_92 f0_troubled_93 f0_happened_94 f0_commitCount_95 f0_first_96 f0_waiting_97 f0_sent_98 f0_lostCount_99 am921_102 am922_105 am923_108 am924_111 am925_114 am926_117 am927_120 am928_123 am929_126 am9210_129 am9211_132 am9212_135 am9213_138 am9214_141 am9215_144 am9216_147 => (zq_X_remind_95 kk kJ x1 x3 f0_openSet_84 f0_state_85 f0_votes_86 f0_heard_87 f0_names_88 f0_name_89 f0_slot_90 f0_parts_91 f0_trouble_92 f0_troubled_93 f0_happened_94 f0_commitCount_95 f0_first_96 f0_waiting_97 f0_sent_98 f0_lostCount_99 am921_102 am922_105 am923_108 am924_111 am925_114 am926_117 am927_120 am928_123 am929_126 am9210_129 am9211_132 am9212_135 am9213_138 am9214_141 am9215_144 am9216_147)) f0_openSet f0_state f0_votes f0_heard f0_names f0_name f0_slot f0_parts f0_trouble f0_troubled f0_happened f0_commitCount f0_first f0_waiting f0_sent f0_lostCount a1 a2 a3 a4 a5 a6 a7 a8 a9 a10 a11 a12 a13 a14 a15 a16 4 3 x1) (zq_X_remind_95 kk kJ x1 x3 f0_openSet f0_state f0_votes f0_heard f0_names f0_name f0_slot f0_parts f0_trouble f0_troubled f0_happened f0_commitCount f0_first f0_waiting f0_sent f0_lostCount a1 a2 a3 a4 a5 a6 a7 a8 a9 a10 a11 a12 a13 a14 a15 a16)) (zq_X_remind_95 kk kJ x1 x3 f0_openSet f0_state f0_votes f0_heard f0_names f0_name f0_slot f0_parts f0_trouble f0_troubled f0_happened f0_commitCount f0_first f0_waiting f0_sent f0_lostCount a1 a2 a3 a4 a5 a6 a7 a8 a9 a10 a11 a12 a13 a14 a15 a16)))) f0_openSet f0_state f0_votes f0_heard f0_names f0_name f0_slot f0_parts f0_trouble f0_troubled f0_happened f0_commitCount f0_first f0_waiting f0_sent f0_lostCount a1 a2 a3 a4 a5 a6 a7 a8 a9 a10 a11 a12 a13 a14 a15 a16 x1)
theorem zr_X_remind_68 {c : Nat} (hc : c ≤ 1023) {post : St2 → Prop} {kk : Nat → Nat → Nat → Nat → Nat → Nat → Nat → Nat → Nat → Nat → Nat → Nat → Nat → Nat → Nat → Nat → Nat → Nat → Nat → Nat → Nat → Nat → Nat → Nat → Nat → Nat → Nat → Nat → Nat → Nat → Nat → Nat → Bool} {J : Int32 → Int32 → Int32 → Int32 → Int32 → Int32 → Int32 → Int32 → Int32 → Int32 → Int32 → Int32 → Int32 → Int32 → Int32 → Int32 → Int32 → (Nat → Int32) → (Nat → Int32) → (Nat → Int32) → (Nat → Int32) → (Nat → Int32) → (Nat → Int32) → (Nat → Int32) → (Nat → Int32) → (Nat → Int32) → (Nat → Int32) → (Nat → Int32) → (Nat → Int32) → (Nat → Int32) → (Nat → Int32) → (Nat → Int32) → (Nat → Int32) → Prop} {kJ : Nat → Nat → Nat → Nat → Nat → Nat → Nat → Nat → Nat → Nat → Nat → Nat → Nat → Nat → Nat → Nat → Nat → Nat → Nat → Nat → Nat → Nat → Nat → Nat → Nat → Nat → Nat → Nat → Nat → Nat → Nat → Nat → Nat → Bool} {x1 x3 f0_openSet f0_state f0_votes f0_heard f0_names f0_name f0_slot f0_parts f0_trouble f0_troubled f0_happened f0_commitCount f0_first f0_waiting f0_sent f0_lostCount a1 a2 a3 a4 a5 a6 a7 a8 a9 a10 a11 a12 a13 a14 a15 a16 : Nat} {X_x1 : Int32} (e_x1 : X_x1 = nI x1) {X_x3 : Int32} (e_x3 : X_x3 = nI x3) (h : zq_X_remind_68 kk kJ x1 x3 f0_openSet f0_state f0_votes f0_heard f0_names f0_name f0_slot f0_parts f0_trouble f0_troubled f0_happened f0_commitCount f0_first f0_waiting f0_sent f0_lostCount a1 a2 a3 a4 a5 a6 a7 a8 a9 a10 a11 a12 a13 a14 a15 a16 = true) (hJ : ∀ {x1_ f0_openSet_ f0_state_ f0_votes_ f0_heard_ f0_names_ f0_name_ f0_slot_ f0_parts_ f0_trouble_ f0_troubled_ f0_happened_ f0_commitCount_ f0_first_ f0_waiting_ f0_sent_ f0_lostCount_ a1_ a2_ a3_ a4_ a5_ a6_ a7_ a8_ a9_ a10_ a11_ a12_ a13_ a14_ a15_ a16_ : Nat}, kJ x1_ f0_openSet_ f0_state_ f0_votes_ f0_heard_ f0_names_ f0_name_ f0_slot_ f0_parts_ f0_trouble_ f0_troubled_ f0_happened_ f0_commitCount_ f0_first_ f0_waiting_ f0_sent_ f0_lostCount_ a1_ a2_ a3_ a4_ a5_ a6_ a7_ a8_ a9_ a10_ a11_ a12_ a13_ a14_ a15_ a16_ = true → J (nI x1_) (nI f0_openSet_) (nI f0_state_) (nI f0_votes_) (nI f0_heard_) (nI f0_names_) (nI f0_name_) (nI f0_slot_) (nI f0_parts_) (nI f0_trouble_) (nI f0_troubled_) (nI f0_happened_) (nI f0_commitCount_) (nI f0_first_) (nI f0_waiting_) (nI f0_sent_) (nI f0_lostCount_) (zb_va c a1_) (zb_ka a2_) (zb_ka a3_) (zb_ka a4_) (zb_ka a5_) (zb_va c a6_) (zb_va c a7_) (zb_ka a8_) (zb_ka a9_) (zb_va c a10_) (zb_ka a11_) (zb_ka a12_) (zb_ka a13_) (zb_ka a14_) (zb_ka a15_) (zb_ka a16_)) (hk : ∀ {f1 f2 f3 f4 f5 f6 f7 f8 f9 f10 f11 f12 f13 f14 f15 f16 b1 b2 b3 b4 b5 b6 b7 b8 b9 b10 b11 b12 b13 b14 b15 b16 : Nat}, kk f1 f2 f3 f4 f5 f6 f7 f8 f9 f10 f11 f12 f13 f14 f15 f16 b1 b2 b3 b4 b5 b6 b7 b8 b9 b10 b11 b12 b13 b14 b15 b16 = true → post ((nI f1), (nI f2), (nI f3), (nI f4), (nI f5), (nI f6), (nI f7), (nI f8), (nI f9), (nI f10), (nI f11), (nI f12), (nI f13), (nI f14), (nI f15), (nI f16), (zb_va c b1), (zb_ka b2), (zb_ka b3), (zb_ka b4), (zb_ka b5), (zb_va c b6), (zb_va c b7), (zb_ka b8), (zb_ka b9), (zb_va c b10), (zb_ka b11), (zb_ka b12), (zb_ka b13), (zb_ka b14), (zb_ka b15), (zb_ka b16))) : wX_remind_68 post J X_x1 X_x3 (nI f0_openSet) (nI f0_state) (nI f0_votes) (nI f0_heard) (nI f0_names) (nI f0_name) (nI f0_slot) (nI f0_parts) (nI f0_trouble) (nI f0_troubled) (nI f0_happened) (nI f0_commitCount) (nI f0_first) (nI f0_waiting) (nI f0_sent) (nI f0_lostCount) (zb_va c a1) (zb_ka a2) (zb_ka a3) (zb_ka a4) (zb_ka a5) (zb_va c a6) (zb_va c a7) (zb_ka a8) (zb_ka a9) (zb_va c a10) (zb_ka a11) (zb_ka a12) (zb_ka a13) (zb_ka a14) (zb_ka a15) (zb_ka a16) := by
  subst e_x1
  subst e_x3
  unfold zq_X_remind_68 at h
  unfold wX_remind_68
  refine zr_pX_isPart hc rfl h ?_
  intro r_6 R_ eR_ h
  subst eR_
  refine zb_if_ok (zb_eqP rfl (rfl : (0 : Int32) = nI 0)) h ?_ ?_
  · intro h
    exact zr_X_remind_95 hc rfl rfl h hJ hk
  · intro h
    refine zb_if_ok (zb_eqP rfl (rfl : (2 : Int32) = nI 2)) h ?_ ?_
    · intro h
      refine zb_if_ok (zb_eqP rfl (rfl : (0 : Int32) = nI 0)) h ?_ ?_
      · intro h
        refine zr_pX_send hc (rfl : (4 : Int32) = nI 4) (rfl : (3 : Int32) = nI 3) rfl h ?_
        intro f0_openSet_84 f0_state_85 f0_votes_86 f0_heard_87 f0_names_88 f0_name_89 f0_slot_90 f0_parts_91 f0_trouble_92 f0_troubled_93 f0_happened_94 f0_commitCount_95 f0_first_96 f0_waiting_97 f0_sent_98 f0_lostCount_99 am921_102 am922_105 am923_108 am924_111 am925_114 am926_117 am927_120 am928_123 am929_126 am9210_129 am9211_132 am9212_135 am9213_138 am9214_141 am9215_144 am9216_147 h
        exact zr_X_remind_95 hc rfl rfl h hJ hk
      · intro h
        exact zr_X_remind_95 hc rfl rfl h hJ hk
    · intro h
      exact zr_X_remind_95 hc rfl rfl h hJ hk
noncomputable def zq_X_remind_40 (kk : Nat → Nat → Nat → Nat → Nat → Nat → Nat → Nat → Nat → Nat → Nat → Nat → Nat → Nat → Nat → Nat → Nat → Nat → Nat → Nat → Nat → Nat → Nat → Nat → Nat → Nat → Nat → Nat → Nat → Nat → Nat → Nat → Bool) (kJ : Nat → Nat → Nat → Nat → Nat → Nat → Nat → Nat → Nat → Nat → Nat → Nat → Nat → Nat → Nat → Nat → Nat → Nat → Nat → Nat → Nat → Nat → Nat → Nat → Nat → Nat → Nat → Nat → Nat → Nat → Nat → Nat → Nat → Bool) (x1 x2 z0 f0_openSet f0_state f0_votes f0_heard f0_names f0_name f0_slot f0_parts f0_trouble f0_troubled f0_happened f0_commitCount f0_first f0_waiting f0_sent f0_lostCount a1 a2 a3 a4 a5 a6 a7 a8 a9 a10 a11 a12 a13 a14 a15 a16 : Nat) : Bool := (zq_pX_isPart (fun r_4 => (zb_if (zb_eq r_4 0) (zq_X_remind_68 kk kJ x1 z0 f0_openSet f0_state f0_votes f0_heard f0_names f0_name f0_slot f0_parts f0_trouble f0_troubled f0_happened f0_commitCount f0_first f0_waiting f0_sent f0_lostCount a1 a2 a3 a4 a5 a6 a7 a8 a9 a10 a11 a12 a13 a14 a15 a16) (zb_if (zb_eq f0_state 1) (zb_if (zb_eq x2 0) (zq_pX_send (fun f0_openSet_151 f0_state_152 f0_votes_153 f0_heard_154 f0_names_155 f0_name_156 f0_slot_157 f0_parts_158 f0_trouble_159 f0_troubled_160 f0_happened_161 f0_commitCount_162 f0_first_163 f0_waiting_164 f0_sent_165 f0_lostCount_166 am651_169 am652_172 am653_175 am654_178 am655_181 am656_184 am657_187 am658_190 am659_193 am6510_196 am6511_199 am6512_202 am6513_205 am6514_208 am6515_211 am6516_214 => (zq_X_remind_68 kk kJ x1 z0 f0_openSet_151 f0_state_152 f0_votes_153 f0_heard_154 f0_names_155 f0_name_156 f0_slot_157 f0_parts_158 f0_trouble_159 f0_troubled_160 f0_happened_161 f0_commitCount_162 f0_first_163 f0_waiting_164 f0_sent_165 f0_lostCount_166 am651_169 am652_172 am653_175 am654_178 am655_181 am656_184 am657_187 am658_190 am659_193 am6510_196 am6511_199 am6512_202 am6513_205 am6514_208 am6515_211 am6516_214)) f0_openSet f0_state f0_votes f0_heard f0_names f0_name f0_slot f0_parts f0_trouble f0_troubled f0_happened f0_commitCount f0_first f0_waiting f0_sent f0_lostCount a1 a2 a3 a4 a5 a6 a7 a8 a9 a10 a11 a12 a13 a14 a15 a16 1 3 x1) (zq_X_remind_68 kk kJ x1 z0 f0_openSet f0_state f0_votes f0_heard f0_names f0_name f0_slot f0_parts f0_trouble f0_troubled f0_happened f0_commitCount f0_first f0_waiting f0_sent f0_lostCount a1 a2 a3 a4 a5 a6 a7 a8 a9 a10 a11 a12 a13 a14 a15 a16)) (zq_X_remind_68 kk kJ x1 z0 f0_openSet f0_state f0_votes f0_heard f0_names f0_name f0_slot f0_parts f0_trouble f0_troubled f0_happened f0_commitCount f0_first f0_waiting f0_sent f0_lostCount a1 a2 a3 a4 a5 a6 a7 a8 a9 a10 a11 a12 a13 a14 a15 a16)))) f0_openSet f0_state f0_votes f0_heard f0_names f0_name f0_slot f0_parts f0_trouble f0_troubled f0_happened f0_commitCount f0_first f0_waiting f0_sent f0_lostCount a1 a2 a3 a4 a5 a6 a7 a8 a9 a10 a11 a12 a13 a14 a15 a16 x1)
theorem zr_X_remind_40 {c : Nat} (hc : c ≤ 1023) {post : St2 → Prop} {kk : Nat → Nat → Nat → Nat → Nat → Nat → Nat → Nat → Nat → Nat → Nat → Nat → Nat → Nat → Nat → Nat → Nat → Nat → Nat → Nat → Nat → Nat → Nat → Nat → Nat → Nat → Nat → Nat → Nat → Nat → Nat → Nat → Bool} {J : Int32 → Int32 → Int32 → Int32 → Int32 → Int32 → Int32 → Int32 → Int32 → Int32 → Int32 → Int32 → Int32 → Int32 → Int32 → Int32 → Int32 → (Nat → Int32) → (Nat → Int32) → (Nat → Int32) → (Nat → Int32) → (Nat → Int32) → (Nat → Int32) → (Nat → Int32) → (Nat → Int32) → (Nat → Int32) → (Nat → Int32) → (Nat → Int32) → (Nat → Int32) → (Nat → Int32) → (Nat → Int32) → (Nat → Int32) → (Nat → Int32) → Prop} {kJ : Nat → Nat → Nat → Nat → Nat → Nat → Nat → Nat → Nat → Nat → Nat → Nat → Nat → Nat → Nat → Nat → Nat → Nat → Nat → Nat → Nat → Nat → Nat → Nat → Nat → Nat → Nat → Nat → Nat → Nat → Nat → Nat → Nat → Bool} {x1 x2 z0 f0_openSet f0_state f0_votes f0_heard f0_names f0_name f0_slot f0_parts f0_trouble f0_troubled f0_happened f0_commitCount f0_first f0_waiting f0_sent f0_lostCount a1 a2 a3 a4 a5 a6 a7 a8 a9 a10 a11 a12 a13 a14 a15 a16 : Nat} {X_x1 : Int32} (e_x1 : X_x1 = nI x1) {X_x2 : Int32} (e_x2 : X_x2 = nI x2) {X_z0 : Int32} (e_z0 : X_z0 = nI z0) (h : zq_X_remind_40 kk kJ x1 x2 z0 f0_openSet f0_state f0_votes f0_heard f0_names f0_name f0_slot f0_parts f0_trouble f0_troubled f0_happened f0_commitCount f0_first f0_waiting f0_sent f0_lostCount a1 a2 a3 a4 a5 a6 a7 a8 a9 a10 a11 a12 a13 a14 a15 a16 = true) (hJ : ∀ {x1_ f0_openSet_ f0_state_ f0_votes_ f0_heard_ f0_names_ f0_name_ f0_slot_ f0_parts_ f0_trouble_ f0_troubled_ f0_happened_ f0_commitCount_ f0_first_ f0_waiting_ f0_sent_ f0_lostCount_ a1_ a2_ a3_ a4_ a5_ a6_ a7_ a8_ a9_ a10_ a11_ a12_ a13_ a14_ a15_ a16_ : Nat}, kJ x1_ f0_openSet_ f0_state_ f0_votes_ f0_heard_ f0_names_ f0_name_ f0_slot_ f0_parts_ f0_trouble_ f0_troubled_ f0_happened_ f0_commitCount_ f0_first_ f0_waiting_ f0_sent_ f0_lostCount_ a1_ a2_ a3_ a4_ a5_ a6_ a7_ a8_ a9_ a10_ a11_ a12_ a13_ a14_ a15_ a16_ = true → J (nI x1_) (nI f0_openSet_) (nI f0_state_) (nI f0_votes_) (nI f0_heard_) (nI f0_names_) (nI f0_name_) (nI f0_slot_) (nI f0_parts_) (nI f0_trouble_) (nI f0_troubled_) (nI f0_happened_) (nI f0_commitCount_) (nI f0_first_) (nI f0_waiting_) (nI f0_sent_) (nI f0_lostCount_) (zb_va c a1_) (zb_ka a2_) (zb_ka a3_) (zb_ka a4_) (zb_ka a5_) (zb_va c a6_) (zb_va c a7_) (zb_ka a8_) (zb_ka a9_) (zb_va c a10_) (zb_ka a11_) (zb_ka a12_) (zb_ka a13_) (zb_ka a14_) (zb_ka a15_) (zb_ka a16_)) (hk : ∀ {f1 f2 f3 f4 f5 f6 f7 f8 f9 f10 f11 f12 f13 f14 f15 f16 b1 b2 b3 b4 b5 b6 b7 b8 b9 b10 b11 b12 b13 b14 b15 b16 : Nat}, kk f1 f2 f3 f4 f5 f6 f7 f8 f9 f10 f11 f12 f13 f14 f15 f16 b1 b2 b3 b4 b5 b6 b7 b8 b9 b10 b11 b12 b13 b14 b15 b16 = true → post ((nI f1), (nI f2), (nI f3), (nI f4), (nI f5), (nI f6), (nI f7), (nI f8), (nI f9), (nI f10), (nI f11), (nI f12), (nI f13), (nI f14), (nI f15), (nI f16), (zb_va c b1), (zb_ka b2), (zb_ka b3), (zb_ka b4), (zb_ka b5), (zb_va c b6), (zb_va c b7), (zb_ka b8), (zb_ka b9), (zb_va c b10), (zb_ka b11), (zb_ka b12), (zb_ka b13), (zb_ka b14), (zb_ka b15), (zb_ka b16))) : wX_remind_40 post J X_x1 X_x2 X_z0 (nI f0_openSet) (nI f0_state) (nI f0_votes) (nI f0_heard) (nI f0_names) (nI f0_name) (nI f0_slot) (nI f0_parts) (nI f0_trouble) (nI f0_troubled) (nI f0_happened) (nI f0_commitCount) (nI f0_first) (nI f0_waiting) (nI f0_sent) (nI f0_lostCount) (zb_va c a1) (zb_ka a2) (zb_ka a3) (zb_ka a4) (zb_ka a5) (zb_va c a6) (zb_va c a7) (zb_ka a8) (zb_ka a9) (zb_va c a10) (zb_ka a11) (zb_ka a12) (zb_ka a13) (zb_ka a14) (zb_ka a15) (zb_ka a16) := by
  subst e_x1
  subst e_x2
  subst e_z0
  unfold zq_X_remind_40 at h
  unfold wX_remind_40
  refine zr_pX_isPart hc rfl h ?_
  intro r_4 R_ eR_ h
  subst eR_
  refine zb_if_ok (zb_eqP rfl (rfl : (0 : Int32) = nI 0)) h ?_ ?_
  · intro h
    exact zr_X_remind_68 hc rfl rfl h hJ hk
  · intro h
    refine zb_if_ok (zb_eqP rfl (rfl : (1 : Int32) = nI 1)) h ?_ ?_
    · intro h
      refine zb_if_ok (zb_eqP rfl (rfl : (0 : Int32) = nI 0)) h ?_ ?_
      · intro h
        refine zr_pX_send hc (rfl : (1 : Int32) = nI 1) (rfl : (3 : Int32) = nI 3) rfl h ?_
        intro f0_openSet_151 f0_state_152 f0_votes_153 f0_heard_154 f0_names_155 f0_name_156 f0_slot_157 f0_parts_158 f0_trouble_159 f0_troubled_160 f0_happened_161 f0_commitCount_162 f0_first_163 f0_waiting_164 f0_sent_165 f0_lostCount_166 am651_169 am652_172 am653_175 am654_178 am655_181 am656_184 am657_187 am658_190 am659_193 am6510_196 am6511_199 am6512_202 am6513_205 am6514_208 am6515_211 am6516_214 h
        exact zr_X_remind_68 hc rfl rfl h hJ hk
      · intro h
        exact zr_X_remind_68 hc rfl rfl h hJ hk
    · intro h
      exact zr_X_remind_68 hc rfl rfl h hJ hk
noncomputable def zq_X_remind_23 (kk : Nat → Nat → Nat → Nat → Nat → Nat → Nat → Nat → Nat → Nat → Nat → Nat → Nat → Nat → Nat → Nat → Nat → Nat → Nat → Nat → Nat → Nat → Nat → Nat → Nat → Nat → Nat → Nat → Nat → Nat → Nat → Nat → Bool) (kJ : Nat → Nat → Nat → Nat → Nat → Nat → Nat → Nat → Nat → Nat → Nat → Nat → Nat → Nat → Nat → Nat → Nat → Nat → Nat → Nat → Nat → Nat → Nat → Nat → Nat → Nat → Nat → Nat → Nat → Nat → Nat → Nat → Nat → Bool) (x1 z0 f0_openSet f0_state f0_votes f0_heard f0_names f0_name f0_slot f0_parts f0_trouble f0_troubled f0_happened f0_commitCount f0_first f0_waiting f0_sent f0_lostCount a1 a2 a3 a4 a5 a6 a7 a8 a9 a10 a11 a12 a13 a14 a15 a16 : Nat) : Bool := (zb_if (zb_eq (zb_bit f0_heard x1) 0) (zq_X_remind_40 kk kJ x1 z0 0 f0_openSet f0_state f0_votes f0_heard f0_names f0_name f0_slot f0_parts f0_trouble f0_troubled f0_happened f0_commitCount f0_first f0_waiting f0_sent f0_lostCount a1 a2 a3 a4 a5 a6 a7 a8 a9 a10 a11 a12 a13 a14 a15 a16) (zq_X_remind_40 kk kJ x1 z0 1 f0_openSet f0_state f0_votes f0_heard f0_names f0_name f0_slot f0_parts f0_trouble f0_troubled f0_happened f0_commitCount f0_first f0_waiting f0_sent f0_lostCount a1 a2 a3 a4 a5 a6 a7 a8 a9 a10 a11 a12 a13 a14 a15 a16))
theorem zr_X_remind_23 {c : Nat} (hc : c ≤ 1023) {post : St2 → Prop} {kk : Nat → Nat → Nat → Nat → Nat → Nat → Nat → Nat → Nat → Nat → Nat → Nat → Nat → Nat → Nat → Nat → Nat → Nat → Nat → Nat → Nat → Nat → Nat → Nat → Nat → Nat → Nat → Nat → Nat → Nat → Nat → Nat → Bool} {J : Int32 → Int32 → Int32 → Int32 → Int32 → Int32 → Int32 → Int32 → Int32 → Int32 → Int32 → Int32 → Int32 → Int32 → Int32 → Int32 → Int32 → (Nat → Int32) → (Nat → Int32) → (Nat → Int32) → (Nat → Int32) → (Nat → Int32) → (Nat → Int32) → (Nat → Int32) → (Nat → Int32) → (Nat → Int32) → (Nat → Int32) → (Nat → Int32) → (Nat → Int32) → (Nat → Int32) → (Nat → Int32) → (Nat → Int32) → (Nat → Int32) → Prop} {kJ : Nat → Nat → Nat → Nat → Nat → Nat → Nat → Nat → Nat → Nat → Nat → Nat → Nat → Nat → Nat → Nat → Nat → Nat → Nat → Nat → Nat → Nat → Nat → Nat → Nat → Nat → Nat → Nat → Nat → Nat → Nat → Nat → Nat → Bool} {x1 z0 f0_openSet f0_state f0_votes f0_heard f0_names f0_name f0_slot f0_parts f0_trouble f0_troubled f0_happened f0_commitCount f0_first f0_waiting f0_sent f0_lostCount a1 a2 a3 a4 a5 a6 a7 a8 a9 a10 a11 a12 a13 a14 a15 a16 : Nat} {X_x1 : Int32} (e_x1 : X_x1 = nI x1) {X_z0 : Int32} (e_z0 : X_z0 = nI z0) (h : zq_X_remind_23 kk kJ x1 z0 f0_openSet f0_state f0_votes f0_heard f0_names f0_name f0_slot f0_parts f0_trouble f0_troubled f0_happened f0_commitCount f0_first f0_waiting f0_sent f0_lostCount a1 a2 a3 a4 a5 a6 a7 a8 a9 a10 a11 a12 a13 a14 a15 a16 = true) (hJ : ∀ {x1_ f0_openSet_ f0_state_ f0_votes_ f0_heard_ f0_names_ f0_name_ f0_slot_ f0_parts_ f0_trouble_ f0_troubled_ f0_happened_ f0_commitCount_ f0_first_ f0_waiting_ f0_sent_ f0_lostCount_ a1_ a2_ a3_ a4_ a5_ a6_ a7_ a8_ a9_ a10_ a11_ a12_ a13_ a14_ a15_ a16_ : Nat}, kJ x1_ f0_openSet_ f0_state_ f0_votes_ f0_heard_ f0_names_ f0_name_ f0_slot_ f0_parts_ f0_trouble_ f0_troubled_ f0_happened_ f0_commitCount_ f0_first_ f0_waiting_ f0_sent_ f0_lostCount_ a1_ a2_ a3_ a4_ a5_ a6_ a7_ a8_ a9_ a10_ a11_ a12_ a13_ a14_ a15_ a16_ = true → J (nI x1_) (nI f0_openSet_) (nI f0_state_) (nI f0_votes_) (nI f0_heard_) (nI f0_names_) (nI f0_name_) (nI f0_slot_) (nI f0_parts_) (nI f0_trouble_) (nI f0_troubled_) (nI f0_happened_) (nI f0_commitCount_) (nI f0_first_) (nI f0_waiting_) (nI f0_sent_) (nI f0_lostCount_) (zb_va c a1_) (zb_ka a2_) (zb_ka a3_) (zb_ka a4_) (zb_ka a5_) (zb_va c a6_) (zb_va c a7_) (zb_ka a8_) (zb_ka a9_) (zb_va c a10_) (zb_ka a11_) (zb_ka a12_) (zb_ka a13_) (zb_ka a14_) (zb_ka a15_) (zb_ka a16_)) (hk : ∀ {f1 f2 f3 f4 f5 f6 f7 f8 f9 f10 f11 f12 f13 f14 f15 f16 b1 b2 b3 b4 b5 b6 b7 b8 b9 b10 b11 b12 b13 b14 b15 b16 : Nat}, kk f1 f2 f3 f4 f5 f6 f7 f8 f9 f10 f11 f12 f13 f14 f15 f16 b1 b2 b3 b4 b5 b6 b7 b8 b9 b10 b11 b12 b13 b14 b15 b16 = true → post ((nI f1), (nI f2), (nI f3), (nI f4), (nI f5), (nI f6), (nI f7), (nI f8), (nI f9), (nI f10), (nI f11), (nI f12), (nI f13), (nI f14), (nI f15), (nI f16), (zb_va c b1), (zb_ka b2), (zb_ka b3), (zb_ka b4), (zb_ka b5), (zb_va c b6), (zb_va c b7), (zb_ka b8), (zb_ka b9), (zb_va c b10), (zb_ka b11), (zb_ka b12), (zb_ka b13), (zb_ka b14), (zb_ka b15), (zb_ka b16))) : wX_remind_23 post J X_x1 X_z0 (nI f0_openSet) (nI f0_state) (nI f0_votes) (nI f0_heard) (nI f0_names) (nI f0_name) (nI f0_slot) (nI f0_parts) (nI f0_trouble) (nI f0_troubled) (nI f0_happened) (nI f0_commitCount) (nI f0_first) (nI f0_waiting) (nI f0_sent) (nI f0_lostCount) (zb_va c a1) (zb_ka a2) (zb_ka a3) (zb_ka a4) (zb_ka a5) (zb_va c a6) (zb_va c a7) (zb_ka a8) (zb_ka a9) (zb_va c a10) (zb_ka a11) (zb_ka a12) (zb_ka a13) (zb_ka a14) (zb_ka a15) (zb_ka a16) := by
  subst e_x1
  subst e_z0
  unfold zq_X_remind_23 at h
  unfold wX_remind_23
  refine zb_if_ok (zb_eqP (zb_bitP rfl rfl) (rfl : (0 : Int32) = nI 0)) h ?_ ?_
  · intro h
    exact zr_X_remind_40 hc rfl rfl (rfl : (0 : Int32) = nI 0) h hJ hk
  · intro h
    exact zr_X_remind_40 hc rfl rfl (rfl : (1 : Int32) = nI 1) h hJ hk
noncomputable def zq_X_remind_2 (kk : Nat → Nat → Nat → Nat → Nat → Nat → Nat → Nat → Nat → Nat → Nat → Nat → Nat → Nat → Nat → Nat → Nat → Nat → Nat → Nat → Nat → Nat → Nat → Nat → Nat → Nat → Nat → Nat → Nat → Nat → Nat → Nat → Bool) : Nat → Nat → Nat → Nat → Nat → Nat → Nat → Nat → Nat → Nat → Nat → Nat → Nat → Nat → Nat → Nat → Nat → Nat → Nat → Nat → Nat → Nat → Nat → Nat → Nat → Nat → Nat → Nat → Nat → Nat → Nat → Nat → Nat → Nat → Bool
  | 0 => fun _ _ _ _ _ _ _ _ _ _ _ _ _ _ _ _ _ _ _ _ _ _ _ _ _ _ _ _ _ _ _ _ _ => false
  | n + 1 => fun x1 f0_openSet f0_state f0_votes f0_heard f0_names f0_name f0_slot f0_parts f0_trouble f0_troubled f0_happened f0_commitCount f0_first f0_waiting f0_sent f0_lostCount a1 a2 a3 a4 a5 a6 a7 a8 a9 a10 a11 a12 a13 a14 a15 a16 => (zb_if (zb_le 3 x1) (kk f0_openSet f0_state f0_votes f0_heard f0_names f0_name f0_slot f0_parts f0_trouble f0_troubled f0_happened f0_commitCount f0_first f0_waiting f0_sent f0_lostCount a1 a2 a3 a4 a5 a6 a7 a8 a9 a10 a11 a12 a13 a14 a15 a16) (zb_if (zb_eq (zb_bit f0_votes x1) 0) (zq_X_remind_23 kk (zq_X_remind_2 kk n) x1 0 f0_openSet f0_state f0_votes f0_heard f0_names f0_name f0_slot f0_parts f0_trouble f0_troubled f0_happened f0_commitCount f0_first f0_waiting f0_sent f0_lostCount a1 a2 a3 a4 a5 a6 a7 a8 a9 a10 a11 a12 a13 a14 a15 a16) (zq_X_remind_23 kk (zq_X_remind_2 kk n) x1 1 f0_openSet f0_state f0_votes f0_heard f0_names f0_name f0_slot f0_parts f0_trouble f0_troubled f0_happened f0_commitCount f0_first f0_waiting f0_sent f0_lostCount a1 a2 a3 a4 a5 a6 a7 a8 a9 a10 a11 a12 a13 a14 a15 a16)))
theorem zr_X_remind_2 {c : Nat} (hc : c ≤ 1023) {post : St2 → Prop} {kk : Nat → Nat → Nat → Nat → Nat → Nat → Nat → Nat → Nat → Nat → Nat → Nat → Nat → Nat → Nat → Nat → Nat → Nat → Nat → Nat → Nat → Nat → Nat → Nat → Nat → Nat → Nat → Nat → Nat → Nat → Nat → Nat → Bool} (hk : ∀ {f1 f2 f3 f4 f5 f6 f7 f8 f9 f10 f11 f12 f13 f14 f15 f16 b1 b2 b3 b4 b5 b6 b7 b8 b9 b10 b11 b12 b13 b14 b15 b16 : Nat}, kk f1 f2 f3 f4 f5 f6 f7 f8 f9 f10 f11 f12 f13 f14 f15 f16 b1 b2 b3 b4 b5 b6 b7 b8 b9 b10 b11 b12 b13 b14 b15 b16 = true → post ((nI f1), (nI f2), (nI f3), (nI f4), (nI f5), (nI f6), (nI f7), (nI f8), (nI f9), (nI f10), (nI f11), (nI f12), (nI f13), (nI f14), (nI f15), (nI f16), (zb_va c b1), (zb_ka b2), (zb_ka b3), (zb_ka b4), (zb_ka b5), (zb_va c b6), (zb_va c b7), (zb_ka b8), (zb_ka b9), (zb_va c b10), (zb_ka b11), (zb_ka b12), (zb_ka b13), (zb_ka b14), (zb_ka b15), (zb_ka b16))) : ∀ (n : Nat) {x1 f0_openSet f0_state f0_votes f0_heard f0_names f0_name f0_slot f0_parts f0_trouble f0_troubled f0_happened f0_commitCount f0_first f0_waiting f0_sent f0_lostCount a1 a2 a3 a4 a5 a6 a7 a8 a9 a10 a11 a12 a13 a14 a15 a16 : Nat} {X_x1 : Int32}, X_x1 = nI x1 → zq_X_remind_2 kk n x1 f0_openSet f0_state f0_votes f0_heard f0_names f0_name f0_slot f0_parts f0_trouble f0_troubled f0_happened f0_commitCount f0_first f0_waiting f0_sent f0_lostCount a1 a2 a3 a4 a5 a6 a7 a8 a9 a10 a11 a12 a13 a14 a15 a16 = true → wX_remind_2 post n X_x1 (nI f0_openSet) (nI f0_state) (nI f0_votes) (nI f0_heard) (nI f0_names) (nI f0_name) (nI f0_slot) (nI f0_parts) (nI f0_trouble) (nI f0_troubled) (nI f0_happened) (nI f0_commitCount) (nI f0_first) (nI f0_waiting) (nI f0_sent) (nI f0_lostCount) (zb_va c a1) (zb_ka a2) (zb_ka a3) (zb_ka a4) (zb_ka a5) (zb_va c a6) (zb_va c a7) (zb_ka a8) (zb_ka a9) (zb_va c a10) (zb_ka a11) (zb_ka a12) (zb_ka a13) (zb_ka a14) (zb_ka a15) (zb_ka a16) := by
  intro n
  induction n with
  | zero =>
    intro x1 f0_openSet f0_state f0_votes f0_heard f0_names f0_name f0_slot f0_parts f0_trouble f0_troubled f0_happened f0_commitCount f0_first f0_waiting f0_sent f0_lostCount a1 a2 a3 a4 a5 a6 a7 a8 a9 a10 a11 a12 a13 a14 a15 a16 X_x1 e_x1 h
    exact absurd (show false = true from h) Bool.false_ne_true
  | succ n ih =>
    intro x1 f0_openSet f0_state f0_votes f0_heard f0_names f0_name f0_slot f0_parts f0_trouble f0_troubled f0_happened f0_commitCount f0_first f0_waiting f0_sent f0_lostCount a1 a2 a3 a4 a5 a6 a7 a8 a9 a10 a11 a12 a13 a14 a15 a16 X_x1 e_x1 h
    subst e_x1
    refine zb_if_ok (zb_leP (rfl : (3 : Int32) = nI 3) rfl) h ?_ ?_
    · intro h
      exact hk h
    · intro h
      refine zb_if_ok (zb_eqP (zb_bitP rfl rfl) (rfl : (0 : Int32) = nI 0)) h ?_ ?_
      · intro h
        exact zr_X_remind_23 hc rfl (rfl : (0 : Int32) = nI 0) h (fun h => ih rfl h) hk
      · intro h
        exact zr_X_remind_23 hc rfl (rfl : (1 : Int32) = nI 1) h (fun h => ih rfl h) hk
noncomputable def zq_pX_remind (kk : Nat → Nat → Nat → Nat → Nat → Nat → Nat → Nat → Nat → Nat → Nat → Nat → Nat → Nat → Nat → Nat → Nat → Nat → Nat → Nat → Nat → Nat → Nat → Nat → Nat → Nat → Nat → Nat → Nat → Nat → Nat → Nat → Bool) (f0_openSet f0_state f0_votes f0_heard f0_names f0_name f0_slot f0_parts f0_trouble f0_troubled f0_happened f0_commitCount f0_first f0_waiting f0_sent f0_lostCount a1 a2 a3 a4 a5 a6 a7 a8 a9 a10 a11 a12 a13 a14 a15 a16 : Nat) : Bool := (zq_X_remind_2 kk 70 0 f0_openSet f0_state f0_votes f0_heard f0_names f0_name f0_slot f0_parts f0_trouble f0_troubled f0_happened f0_commitCount f0_first f0_waiting f0_sent f0_lostCount a1 a2 a3 a4 a5 a6 a7 a8 a9 a10 a11 a12 a13 a14 a15 a16)
theorem zr_pX_remind {c : Nat} (hc : c ≤ 1023) {post : St2 → Prop} {kk : Nat → Nat → Nat → Nat → Nat → Nat → Nat → Nat → Nat → Nat → Nat → Nat → Nat → Nat → Nat → Nat → Nat → Nat → Nat → Nat → Nat → Nat → Nat → Nat → Nat → Nat → Nat → Nat → Nat → Nat → Nat → Nat → Bool} {f0_openSet f0_state f0_votes f0_heard f0_names f0_name f0_slot f0_parts f0_trouble f0_troubled f0_happened f0_commitCount f0_first f0_waiting f0_sent f0_lostCount a1 a2 a3 a4 a5 a6 a7 a8 a9 a10 a11 a12 a13 a14 a15 a16 : Nat} (h : zq_pX_remind kk f0_openSet f0_state f0_votes f0_heard f0_names f0_name f0_slot f0_parts f0_trouble f0_troubled f0_happened f0_commitCount f0_first f0_waiting f0_sent f0_lostCount a1 a2 a3 a4 a5 a6 a7 a8 a9 a10 a11 a12 a13 a14 a15 a16 = true) (hk : ∀ {f1 f2 f3 f4 f5 f6 f7 f8 f9 f10 f11 f12 f13 f14 f15 f16 b1 b2 b3 b4 b5 b6 b7 b8 b9 b10 b11 b12 b13 b14 b15 b16 : Nat}, kk f1 f2 f3 f4 f5 f6 f7 f8 f9 f10 f11 f12 f13 f14 f15 f16 b1 b2 b3 b4 b5 b6 b7 b8 b9 b10 b11 b12 b13 b14 b15 b16 = true → post ((nI f1), (nI f2), (nI f3), (nI f4), (nI f5), (nI f6), (nI f7), (nI f8), (nI f9), (nI f10), (nI f11), (nI f12), (nI f13), (nI f14), (nI f15), (nI f16), (zb_va c b1), (zb_ka b2), (zb_ka b3), (zb_ka b4), (zb_ka b5), (zb_va c b6), (zb_va c b7), (zb_ka b8), (zb_ka b9), (zb_va c b10), (zb_ka b11), (zb_ka b12), (zb_ka b13), (zb_ka b14), (zb_ka b15), (zb_ka b16))) : wpX_remind post ((nI f0_openSet), (nI f0_state), (nI f0_votes), (nI f0_heard), (nI f0_names), (nI f0_name), (nI f0_slot), (nI f0_parts), (nI f0_trouble), (nI f0_troubled), (nI f0_happened), (nI f0_commitCount), (nI f0_first), (nI f0_waiting), (nI f0_sent), (nI f0_lostCount), (zb_va c a1), (zb_ka a2), (zb_ka a3), (zb_ka a4), (zb_ka a5), (zb_va c a6), (zb_va c a7), (zb_ka a8), (zb_ka a9), (zb_va c a10), (zb_ka a11), (zb_ka a12), (zb_ka a13), (zb_ka a14), (zb_ka a15), (zb_ka a16)) := by
  unfold zq_pX_remind at h
  unfold wpX_remind
  refine ⟨70, ?_⟩
  exact zr_X_remind_2 hc hk _ (rfl : (0 : Int32) = nI 0) h
noncomputable def zq_X_holdLogged_5 (kk : Nat → Nat → Nat → Nat → Nat → Nat → Nat → Nat → Nat → Nat → Nat → Nat → Nat → Nat → Nat → Nat → Nat → Nat → Nat → Nat → Nat → Nat → Nat → Nat → Nat → Nat → Nat → Nat → Nat → Nat → Nat → Nat → Bool) (x1 x2 : Nat) : Nat → Nat → Nat → Nat → Nat → Nat → Nat → Nat → Nat → Nat → Nat → Nat → Nat → Nat → Nat → Nat → Nat → Nat → Nat → Nat → Nat → Nat → Nat → Nat → Nat → Nat → Nat → Nat → Nat → Nat → Nat → Nat → Nat → Nat → Bool
  | 0 => fun _ _ _ _ _ _ _ _ _ _ _ _ _ _ _ _ _ _ _ _ _ _ _ _ _ _ _ _ _ _ _ _ _ => false
  | n + 1 => fun x3 f0_openSet f0_state f0_votes f0_heard f0_names f0_name f0_slot f0_parts f0_trouble f0_troubled f0_happened f0_commitCount f0_first f0_waiting f0_sent f0_lostCount a1 a2 a3 a4 a5 a6 a7 a8 a9 a10 a11 a12 a13 a14 a15 a16 => (zb_in x1 4 (zb_if (zb_le (Nat.add (Nat.mul x1 64) (zb_rd a2 x1)) x3) (zb_in (Nat.add (Nat.mul f0_slot 3) x1) 12 (zb_let (zb_wr a11 (zb_cl (Nat.add (Nat.mul f0_slot 3) x1)) x2) (fun a11_5 => (kk f0_openSet f0_state f0_votes f0_heard f0_names f0_name f0_slot f0_parts f0_trouble f0_troubled f0_happened f0_commitCount f0_first f0_waiting f0_sent f0_lostCount a1 a2 a3 a4 a5 a6 a7 a8 a9 a10 a11_5 a12 a13 a14 a15 a16)))) (zb_in x3 256 (zb_if (zb_eq (zb_rd a3 x3) 1) (zb_in x3 256 (zb_if (zb_eq (zb_rd a4 x3) x2) (zb_in x3 256 (zb_in x3 256 (zq_pX_writeKey (fun f0_openSet_15 f0_state_16 f0_votes_17 f0_heard_18 f0_names_19 f0_name_20 f0_slot_21 f0_parts_22 f0_trouble_23 f0_troubled_24 f0_happened_25 f0_commitCount_26 f0_first_27 f0_waiting_28 f0_sent_29 f0_lostCount_30 am571_33 am572_36 am573_39 am574_42 am575_45 am576_48 am577_51 am578_54 am579_57 am5710_60 am5711_63 am5712_66 am5713_69 am5714_72 am5715_75 am5716_78 => (zb_let (Nat.add x3 1) (fun x3_79 => (zq_X_holdLogged_5 kk x1 x2 n x3_79 f0_openSet_15 f0_state_16 f0_votes_17 f0_heard_18 f0_names_19 f0_name_20 f0_slot_21 f0_parts_22 f0_trouble_23 f0_troubled_24 f0_happened_25 f0_commitCount_26 f0_first_27 f0_waiting_28 f0_sent_29 f0_lostCount_30 am571_33 am572_36 am573_39 am574_42 am575_45 am576_48 am577_51 am578_54 am579_57 am5710_60 am5711_63 am5712_66 am5713_69 am5714_72 am5715_75 am5716_78)))) f0_openSet f0_state f0_votes f0_heard f0_names f0_name f0_slot f0_parts f0_trouble f0_troubled f0_happened f0_commitCount f0_first f0_waiting f0_sent f0_lostCount a1 a2 a3 a4 a5 a6 a7 a8 a9 a10 a11 a12 a13 a14 a15 a16 f0_slot (zb_rd a5 x3) (zb_rd a6 x3)))) (zb_let (Nat.add x3 1) (fun x3_11 => (zq_X_holdLogged_5 kk x1 x2 n x3_11 f0_openSet f0_state f0_votes f0_heard f0_names f0_name f0_slot f0_parts f0_trouble f0_troubled f0_happened f0_commitCount f0_first f0_waiting f0_sent f0_lostCount a1 a2 a3 a4 a5 a6 a7 a8 a9 a10 a11 a12 a13 a14 a15 a16))))) (zb_let (Nat.add x3 1) (fun x3_8 => (zq_X_holdLogged_5 kk x1 x2 n x3_8 f0_openSet f0_state f0_votes f0_heard f0_names f0_name f0_slot f0_parts f0_trouble f0_troubled f0_happened f0_commitCount f0_first f0_waiting f0_sent f0_lostCount a1 a2 a3 a4 a5 a6 a7 a8 a9 a10 a11 a12 a13 a14 a15 a16)))))))
theorem zr_X_holdLogged_5 {c : Nat} (hc : c ≤ 1023) {post : St2 → Prop} {kk : Nat → Nat → Nat → Nat → Nat → Nat → Nat → Nat → Nat → Nat → Nat → Nat → Nat → Nat → Nat → Nat → Nat → Nat → Nat → Nat → Nat → Nat → Nat → Nat → Nat → Nat → Nat → Nat → Nat → Nat → Nat → Nat → Bool} (hk : ∀ {f1 f2 f3 f4 f5 f6 f7 f8 f9 f10 f11 f12 f13 f14 f15 f16 b1 b2 b3 b4 b5 b6 b7 b8 b9 b10 b11 b12 b13 b14 b15 b16 : Nat}, kk f1 f2 f3 f4 f5 f6 f7 f8 f9 f10 f11 f12 f13 f14 f15 f16 b1 b2 b3 b4 b5 b6 b7 b8 b9 b10 b11 b12 b13 b14 b15 b16 = true → post ((nI f1), (nI f2), (nI f3), (nI f4), (nI f5), (nI f6), (nI f7), (nI f8), (nI f9), (nI f10), (nI f11), (nI f12), (nI f13), (nI f14), (nI f15), (nI f16), (zb_va c b1), (zb_ka b2), (zb_ka b3), (zb_ka b4), (zb_ka b5), (zb_va c b6), (zb_va c b7), (zb_ka b8), (zb_ka b9), (zb_va c b10), (zb_ka b11), (zb_ka b12), (zb_ka b13), (zb_ka b14), (zb_ka b15), (zb_ka b16))) {x1 x2 : Nat} {X_x1 : Int32} (e_x1 : X_x1 = nI x1) {X_x2 : Int32} (e_x2 : X_x2 = nI x2) : ∀ (n : Nat) {x3 f0_openSet f0_state f0_votes f0_heard f0_names f0_name f0_slot f0_parts f0_trouble f0_troubled f0_happened f0_commitCount f0_first f0_waiting f0_sent f0_lostCount a1 a2 a3 a4 a5 a6 a7 a8 a9 a10 a11 a12 a13 a14 a15 a16 : Nat} {X_x3 : Int32}, X_x3 = nI x3 → zq_X_holdLogged_5 kk x1 x2 n x3 f0_openSet f0_state f0_votes f0_heard f0_names f0_name f0_slot f0_parts f0_trouble f0_troubled f0_happened f0_commitCount f0_first f0_waiting f0_sent f0_lostCount a1 a2 a3 a4 a5 a6 a7 a8 a9 a10 a11 a12 a13 a14 a15 a16 = true → wX_holdLogged_5 post X_x1 X_x2 n X_x3 (nI f0_openSet) (nI f0_state) (nI f0_votes) (nI f0_heard) (nI f0_names) (nI f0_name) (nI f0_slot) (nI f0_parts) (nI f0_trouble) (nI f0_troubled) (nI f0_happened) (nI f0_commitCount) (nI f0_first) (nI f0_waiting) (nI f0_sent) (nI f0_lostCount) (zb_va c a1) (zb_ka a2) (zb_ka a3) (zb_ka a4) (zb_ka a5) (zb_va c a6) (zb_va c a7) (zb_ka a8) (zb_ka a9) (zb_va c a10) (zb_ka a11) (zb_ka a12) (zb_ka a13) (zb_ka a14) (zb_ka a15) (zb_ka a16) := by
  subst e_x1
  subst e_x2
  intro n
  induction n with
  | zero =>
    intro x3 f0_openSet f0_state f0_votes f0_heard f0_names f0_name f0_slot f0_parts f0_trouble f0_troubled f0_happened f0_commitCount f0_first f0_waiting f0_sent f0_lostCount a1 a2 a3 a4 a5 a6 a7 a8 a9 a10 a11 a12 a13 a14 a15 a16 X_x3 e_x3 h
    exact absurd (show false = true from h) Bool.false_ne_true
  | succ n ih =>
    intro x3 f0_openSet f0_state f0_votes f0_heard f0_names f0_name f0_slot f0_parts f0_trouble f0_troubled f0_happened f0_commitCount f0_first f0_waiting f0_sent f0_lostCount a1 a2 a3 a4 a5 a6 a7 a8 a9 a10 a11 a12 a13 a14 a15 a16 X_x3 e_x3 h
    subst e_x3
    refine zb_in_ok rfl (by decide) h ?_
    intro h
    refine zb_if_ok (zb_leP (zb_addP (zb_mulP rfl (rfl : (64 : Int32) = nI 64)) (zb_rdK rfl)) rfl) h ?_ ?_
    · intro h
      refine zb_in_ok (zb_addP (zb_mulP rfl (rfl : (3 : Int32) = nI 3)) rfl) (by decide) h ?_
      intro h
      refine zb_let_ka h (zb_upK (zb_addP (zb_mulP rfl (rfl : (3 : Int32) = nI 3)) rfl) rfl) ?_
      intro h
      exact hk h
    · intro h
      refine zb_in_ok rfl (by decide) h ?_
      intro h
      refine zb_if_ok (zb_eqP (zb_rdK rfl) (rfl : (1 : Int32) = nI 1)) h ?_ ?_
      · intro h
        refine zb_in_ok rfl (by decide) h ?_
        intro h
        refine zb_if_ok (zb_eqP (zb_rdK rfl) rfl) h ?_ ?_
        · intro h
          refine zb_in_ok rfl (by decide) h ?_
          intro h
          refine zb_in_ok rfl (by decide) h ?_
          intro h
          refine zr_pX_writeKey hc rfl (zb_rdK rfl) (zb_rdV rfl) h ?_
          intro f0_openSet_15 f0_state_16 f0_votes_17 f0_heard_18 f0_names_19 f0_name_20 f0_slot_21 f0_parts_22 f0_trouble_23 f0_troubled_24 f0_happened_25 f0_commitCount_26 f0_first_27 f0_waiting_28 f0_sent_29 f0_lostCount_30 am571_33 am572_36 am573_39 am574_42 am575_45 am576_48 am577_51 am578_54 am579_57 am5710_60 am5711_63 am5712_66 am5713_69 am5714_72 am5715_75 am5716_78 h
          refine zb_let_k h (zb_addP rfl (rfl : (1 : Int32) = nI 1)) ?_
          intro h
          exact ih rfl h
        · intro h
          refine zb_let_k h (zb_addP rfl (rfl : (1 : Int32) = nI 1)) ?_
          intro h
          exact ih rfl h
      · intro h
        refine zb_let_k h (zb_addP rfl (rfl : (1 : Int32) = nI 1)) ?_
        intro h
        exact ih rfl h
noncomputable def zq_pX_holdLogged (kk : Nat → Nat → Nat → Nat → Nat → Nat → Nat → Nat → Nat → Nat → Nat → Nat → Nat → Nat → Nat → Nat → Nat → Nat → Nat → Nat → Nat → Nat → Nat → Nat → Nat → Nat → Nat → Nat → Nat → Nat → Nat → Nat → Bool) (f0_openSet f0_state f0_votes f0_heard f0_names f0_name f0_slot f0_parts f0_trouble f0_troubled f0_happened f0_commitCount f0_first f0_waiting f0_sent f0_lostCount a1 a2 a3 a4 a5 a6 a7 a8 a9 a10 a11 a12 a13 a14 a15 a16 p0 p1 : Nat) : Bool := (zb_let (Nat.mul p0 64) (fun x3_1 => (zq_X_holdLogged_5 kk p0 p1 70 x3_1 f0_openSet f0_state f0_votes f0_heard f0_names f0_name f0_slot f0_parts f0_trouble f0_troubled f0_happened f0_commitCount f0_first f0_waiting f0_sent f0_lostCount a1 a2 a3 a4 a5 a6 a7 a8 a9 a10 a11 a12 a13 a14 a15 a16)))
theorem zr_pX_holdLogged {c : Nat} (hc : c ≤ 1023) {post : St2 → Prop} {kk : Nat → Nat → Nat → Nat → Nat → Nat → Nat → Nat → Nat → Nat → Nat → Nat → Nat → Nat → Nat → Nat → Nat → Nat → Nat → Nat → Nat → Nat → Nat → Nat → Nat → Nat → Nat → Nat → Nat → Nat → Nat → Nat → Bool} {f0_openSet f0_state f0_votes f0_heard f0_names f0_name f0_slot f0_parts f0_trouble f0_troubled f0_happened f0_commitCount f0_first f0_waiting f0_sent f0_lostCount a1 a2 a3 a4 a5 a6 a7 a8 a9 a10 a11 a12 a13 a14 a15 a16 p0 p1 : Nat} {X_p0 : Int32} (e_p0 : X_p0 = nI p0) {X_p1 : Int32} (e_p1 : X_p1 = nI p1) (h : zq_pX_holdLogged kk f0_openSet f0_state f0_votes f0_heard f0_names f0_name f0_slot f0_parts f0_trouble f0_troubled f0_happened f0_commitCount f0_first f0_waiting f0_sent f0_lostCount a1 a2 a3 a4 a5 a6 a7 a8 a9 a10 a11 a12 a13 a14 a15 a16 p0 p1 = true) (hk : ∀ {f1 f2 f3 f4 f5 f6 f7 f8 f9 f10 f11 f12 f13 f14 f15 f16 b1 b2 b3 b4 b5 b6 b7 b8 b9 b10 b11 b12 b13 b14 b15 b16 : Nat}, kk f1 f2 f3 f4 f5 f6 f7 f8 f9 f10 f11 f12 f13 f14 f15 f16 b1 b2 b3 b4 b5 b6 b7 b8 b9 b10 b11 b12 b13 b14 b15 b16 = true → post ((nI f1), (nI f2), (nI f3), (nI f4), (nI f5), (nI f6), (nI f7), (nI f8), (nI f9), (nI f10), (nI f11), (nI f12), (nI f13), (nI f14), (nI f15), (nI f16), (zb_va c b1), (zb_ka b2), (zb_ka b3), (zb_ka b4), (zb_ka b5), (zb_va c b6), (zb_va c b7), (zb_ka b8), (zb_ka b9), (zb_va c b10), (zb_ka b11), (zb_ka b12), (zb_ka b13), (zb_ka b14), (zb_ka b15), (zb_ka b16))) : wpX_holdLogged post ((nI f0_openSet), (nI f0_state), (nI f0_votes), (nI f0_heard), (nI f0_names), (nI f0_name), (nI f0_slot), (nI f0_parts), (nI f0_trouble), (nI f0_troubled), (nI f0_happened), (nI f0_commitCount), (nI f0_first), (nI f0_waiting), (nI f0_sent), (nI f0_lostCount), (zb_va c a1), (zb_ka a2), (zb_ka a3), (zb_ka a4), (zb_ka a5), (zb_va c a6), (zb_va c a7), (zb_ka a8), (zb_ka a9), (zb_va c a10), (zb_ka a11), (zb_ka a12), (zb_ka a13), (zb_ka a14), (zb_ka a15), (zb_ka a16)) X_p0 X_p1 := by
  subst e_p0
  subst e_p1
  unfold zq_pX_holdLogged at h
  unfold wpX_holdLogged
  refine zb_let_k h (zb_mulP rfl (rfl : (64 : Int32) = nI 64)) ?_
  intro h
  refine ⟨70, ?_⟩
  exact zr_X_holdLogged_5 hc hk rfl rfl _ rfl h
noncomputable def zq_X_applyLogged_5 (kk : Nat → Nat → Nat → Nat → Nat → Nat → Nat → Nat → Nat → Nat → Nat → Nat → Nat → Nat → Nat → Nat → Nat → Nat → Nat → Nat → Nat → Nat → Nat → Nat → Nat → Nat → Nat → Nat → Nat → Nat → Nat → Nat → Bool) (x1 x2 f0_openSet f0_state f0_votes f0_heard f0_names f0_name f0_slot f0_parts f0_trouble f0_troubled f0_happened f0_commitCount f0_first f0_waiting f0_sent f0_lostCount : Nat) : Nat → Nat → Nat → Nat → Nat → Nat → Nat → Nat → Nat → Nat → Nat → Nat → Nat → Nat → Nat → Nat → Nat → Nat → Bool
  | 0 => fun _ _ _ _ _ _ _ _ _ _ _ _ _ _ _ _ _ => false
  | n + 1 => fun x3 a1 a2 a3 a4 a5 a6 a7 a8 a9 a10 a11 a12 a13 a14 a15 a16 => (zb_in x1 4 (zb_if (zb_le (Nat.add (Nat.mul x1 64) (zb_rd a2 x1)) x3) (kk f0_openSet f0_state f0_votes f0_heard f0_names f0_name f0_slot f0_parts f0_trouble f0_troubled f0_happened f0_commitCount f0_first f0_waiting f0_sent f0_lostCount a1 a2 a3 a4 a5 a6 a7 a8 a9 a10 a11 a12 a13 a14 a15 a16) (zb_in x3 256 (zb_if (zb_eq (zb_rd a3 x3) 1) (zb_in x3 256 (zb_if (zb_eq (zb_rd a4 x3) x2) (zb_in x3 256 (zb_in x3 256 (zb_in (zb_rd a5 x3) 12 (zb_let (zb_wr a7 (zb_cl (zb_rd a5 x3)) (zb_rd a6 x3)) (fun a7_13 => (zb_let (Nat.add x3 1) (fun x3_14 => (zq_X_applyLogged_5 kk x1 x2 f0_openSet f0_state f0_votes f0_heard f0_names f0_name f0_slot f0_parts f0_trouble f0_troubled f0_happened f0_commitCount f0_first f0_waiting f0_sent f0_lostCount n x3_14 a1 a2 a3 a4 a5 a6 a7_13 a8 a9 a10 a11 a12 a13 a14 a15 a16)))))))) (zb_let (Nat.add x3 1) (fun x3_9 => (zq_X_applyLogged_5 kk x1 x2 f0_openSet f0_state f0_votes f0_heard f0_names f0_name f0_slot f0_parts f0_trouble f0_troubled f0_happened f0_commitCount f0_first f0_waiting f0_sent f0_lostCount n x3_9 a1 a2 a3 a4 a5 a6 a7 a8 a9 a10 a11 a12 a13 a14 a15 a16))))) (zb_let (Nat.add x3 1) (fun x3_6 => (zq_X_applyLogged_5 kk x1 x2 f0_openSet f0_state f0_votes f0_heard f0_names f0_name f0_slot f0_parts f0_trouble f0_troubled f0_happened f0_commitCount f0_first f0_waiting f0_sent f0_lostCount n x3_6 a1 a2 a3 a4 a5 a6 a7 a8 a9 a10 a11 a12 a13 a14 a15 a16)))))))
theorem zr_X_applyLogged_5 {c : Nat} (hc : c ≤ 1023) {post : St2 → Prop} {kk : Nat → Nat → Nat → Nat → Nat → Nat → Nat → Nat → Nat → Nat → Nat → Nat → Nat → Nat → Nat → Nat → Nat → Nat → Nat → Nat → Nat → Nat → Nat → Nat → Nat → Nat → Nat → Nat → Nat → Nat → Nat → Nat → Bool} (hk : ∀ {f1 f2 f3 f4 f5 f6 f7 f8 f9 f10 f11 f12 f13 f14 f15 f16 b1 b2 b3 b4 b5 b6 b7 b8 b9 b10 b11 b12 b13 b14 b15 b16 : Nat}, kk f1 f2 f3 f4 f5 f6 f7 f8 f9 f10 f11 f12 f13 f14 f15 f16 b1 b2 b3 b4 b5 b6 b7 b8 b9 b10 b11 b12 b13 b14 b15 b16 = true → post ((nI f1), (nI f2), (nI f3), (nI f4), (nI f5), (nI f6), (nI f7), (nI f8), (nI f9), (nI f10), (nI f11), (nI f12), (nI f13), (nI f14), (nI f15), (nI f16), (zb_va c b1), (zb_ka b2), (zb_ka b3), (zb_ka b4), (zb_ka b5), (zb_va c b6), (zb_va c b7), (zb_ka b8), (zb_ka b9), (zb_va c b10), (zb_ka b11), (zb_ka b12), (zb_ka b13), (zb_ka b14), (zb_ka b15), (zb_ka b16))) {x1 x2 f0_openSet f0_state f0_votes f0_heard f0_names f0_name f0_slot f0_parts f0_trouble f0_troubled f0_happened f0_commitCount f0_first f0_waiting f0_sent f0_lostCount : Nat} {X_x1 : Int32} (e_x1 : X_x1 = nI x1) {X_x2 : Int32} (e_x2 : X_x2 = nI x2) : ∀ (n : Nat) {x3 a1 a2 a3 a4 a5 a6 a7 a8 a9 a10 a11 a12 a13 a14 a15 a16 : Nat} {X_x3 : Int32}, X_x3 = nI x3 → zq_X_applyLogged_5 kk x1 x2 f0_openSet f0_state f0_votes f0_heard f0_names f0_name f0_slot f0_parts f0_trouble f0_troubled f0_happened f0_commitCount f0_first f0_waiting f0_sent f0_lostCount n x3 a1 a2 a3 a4 a5 a6 a7 a8 a9 a10 a11 a12 a13 a14 a15 a16 = true → wX_applyLogged_5 post X_x1 X_x2 (nI f0_openSet) (nI f0_state) (nI f0_votes) (nI f0_heard) (nI f0_names) (nI f0_name) (nI f0_slot) (nI f0_parts) (nI f0_trouble) (nI f0_troubled) (nI f0_happened) (nI f0_commitCount) (nI f0_first) (nI f0_waiting) (nI f0_sent) (nI f0_lostCount) n X_x3 (zb_va c a1) (zb_ka a2) (zb_ka a3) (zb_ka a4) (zb_ka a5) (zb_va c a6) (zb_va c a7) (zb_ka a8) (zb_ka a9) (zb_va c a10) (zb_ka a11) (zb_ka a12) (zb_ka a13) (zb_ka a14) (zb_ka a15) (zb_ka a16) := by
  subst e_x1
  subst e_x2
  intro n
  induction n with
  | zero =>
    intro x3 a1 a2 a3 a4 a5 a6 a7 a8 a9 a10 a11 a12 a13 a14 a15 a16 X_x3 e_x3 h
    exact absurd (show false = true from h) Bool.false_ne_true
  | succ n ih =>
    intro x3 a1 a2 a3 a4 a5 a6 a7 a8 a9 a10 a11 a12 a13 a14 a15 a16 X_x3 e_x3 h
    subst e_x3
    refine zb_in_ok rfl (by decide) h ?_
    intro h
    refine zb_if_ok (zb_leP (zb_addP (zb_mulP rfl (rfl : (64 : Int32) = nI 64)) (zb_rdK rfl)) rfl) h ?_ ?_
    · intro h
      exact hk h
    · intro h
      refine zb_in_ok rfl (by decide) h ?_
      intro h
      refine zb_if_ok (zb_eqP (zb_rdK rfl) (rfl : (1 : Int32) = nI 1)) h ?_ ?_
      · intro h
        refine zb_in_ok rfl (by decide) h ?_
        intro h
        refine zb_if_ok (zb_eqP (zb_rdK rfl) rfl) h ?_ ?_
        · intro h
          refine zb_in_ok rfl (by decide) h ?_
          intro h
          refine zb_in_ok rfl (by decide) h ?_
          intro h
          refine zb_in_ok (zb_rdK rfl) (by decide) h ?_
          intro h
          refine zb_let_va h (zb_upV (zb_rdK rfl) (zb_rdV rfl)) ?_
          intro h
          refine zb_let_k h (zb_addP rfl (rfl : (1 : Int32) = nI 1)) ?_
          intro h
          exact ih rfl h
        · intro h
          refine zb_let_k h (zb_addP rfl (rfl : (1 : Int32) = nI 1)) ?_
          intro h
          exact ih rfl h
      · intro h
        refine zb_let_k h (zb_addP rfl (rfl : (1 : Int32) = nI 1)) ?_
        intro h
        exact ih rfl h
noncomputable def zq_pX_applyLogged (kk : Nat → Nat → Nat → Nat → Nat → Nat → Nat → Nat → Nat → Nat → Nat → Nat → Nat → Nat → Nat → Nat → Nat → Nat → Nat → Nat → Nat → Nat → Nat → Nat → Nat → Nat → Nat → Nat → Nat → Nat → Nat → Nat → Bool) (f0_openSet f0_state f0_votes f0_heard f0_names f0_name f0_slot f0_parts f0_trouble f0_troubled f0_happened f0_commitCount f0_first f0_waiting f0_sent f0_lostCount a1 a2 a3 a4 a5 a6 a7 a8 a9 a10 a11 a12 a13 a14 a15 a16 p0 p1 : Nat) : Bool := (zb_let (Nat.mul p0 64) (fun x3_1 => (zq_X_applyLogged_5 kk p0 p1 f0_openSet f0_state f0_votes f0_heard f0_names f0_name f0_slot f0_parts f0_trouble f0_troubled f0_happened f0_commitCount f0_first f0_waiting f0_sent f0_lostCount 70 x3_1 a1 a2 a3 a4 a5 a6 a7 a8 a9 a10 a11 a12 a13 a14 a15 a16)))
theorem zr_pX_applyLogged {c : Nat} (hc : c ≤ 1023) {post : St2 → Prop} {kk : Nat → Nat → Nat → Nat → Nat → Nat → Nat → Nat → Nat → Nat → Nat → Nat → Nat → Nat → Nat → Nat → Nat → Nat → Nat → Nat → Nat → Nat → Nat → Nat → Nat → Nat → Nat → Nat → Nat → Nat → Nat → Nat → Bool} {f0_openSet f0_state f0_votes f0_heard f0_names f0_name f0_slot f0_parts f0_trouble f0_troubled f0_happened f0_commitCount f0_first f0_waiting f0_sent f0_lostCount a1 a2 a3 a4 a5 a6 a7 a8 a9 a10 a11 a12 a13 a14 a15 a16 p0 p1 : Nat} {X_p0 : Int32} (e_p0 : X_p0 = nI p0) {X_p1 : Int32} (e_p1 : X_p1 = nI p1) (h : zq_pX_applyLogged kk f0_openSet f0_state f0_votes f0_heard f0_names f0_name f0_slot f0_parts f0_trouble f0_troubled f0_happened f0_commitCount f0_first f0_waiting f0_sent f0_lostCount a1 a2 a3 a4 a5 a6 a7 a8 a9 a10 a11 a12 a13 a14 a15 a16 p0 p1 = true) (hk : ∀ {f1 f2 f3 f4 f5 f6 f7 f8 f9 f10 f11 f12 f13 f14 f15 f16 b1 b2 b3 b4 b5 b6 b7 b8 b9 b10 b11 b12 b13 b14 b15 b16 : Nat}, kk f1 f2 f3 f4 f5 f6 f7 f8 f9 f10 f11 f12 f13 f14 f15 f16 b1 b2 b3 b4 b5 b6 b7 b8 b9 b10 b11 b12 b13 b14 b15 b16 = true → post ((nI f1), (nI f2), (nI f3), (nI f4), (nI f5), (nI f6), (nI f7), (nI f8), (nI f9), (nI f10), (nI f11), (nI f12), (nI f13), (nI f14), (nI f15), (nI f16), (zb_va c b1), (zb_ka b2), (zb_ka b3), (zb_ka b4), (zb_ka b5), (zb_va c b6), (zb_va c b7), (zb_ka b8), (zb_ka b9), (zb_va c b10), (zb_ka b11), (zb_ka b12), (zb_ka b13), (zb_ka b14), (zb_ka b15), (zb_ka b16))) : wpX_applyLogged post ((nI f0_openSet), (nI f0_state), (nI f0_votes), (nI f0_heard), (nI f0_names), (nI f0_name), (nI f0_slot), (nI f0_parts), (nI f0_trouble), (nI f0_troubled), (nI f0_happened), (nI f0_commitCount), (nI f0_first), (nI f0_waiting), (nI f0_sent), (nI f0_lostCount), (zb_va c a1), (zb_ka a2), (zb_ka a3), (zb_ka a4), (zb_ka a5), (zb_va c a6), (zb_va c a7), (zb_ka a8), (zb_ka a9), (zb_va c a10), (zb_ka a11), (zb_ka a12), (zb_ka a13), (zb_ka a14), (zb_ka a15), (zb_ka a16)) X_p0 X_p1 := by
  subst e_p0
  subst e_p1
  unfold zq_pX_applyLogged at h
  unfold wpX_applyLogged
  refine zb_let_k h (zb_mulP rfl (rfl : (64 : Int32) = nI 64)) ?_
  intro h
  refine ⟨70, ?_⟩
  exact zr_X_applyLogged_5 hc hk rfl rfl _ rfl h
noncomputable def zq_X_comeBack_33 (kk : Nat → Nat → Nat → Nat → Nat → Nat → Nat → Nat → Nat → Nat → Nat → Nat → Nat → Nat → Nat → Nat → Nat → Nat → Nat → Nat → Nat → Nat → Nat → Nat → Nat → Nat → Nat → Nat → Nat → Nat → Nat → Nat → Bool) (x1 : Nat) : Nat → Nat → Nat → Nat → Nat → Nat → Nat → Nat → Nat → Nat → Nat → Nat → Nat → Nat → Nat → Nat → Nat → Nat → Nat → Nat → Nat → Nat → Nat → Nat → Nat → Nat → Nat → Nat → Nat → Nat → Nat → Nat → Nat → Nat → Nat → Bool
  | 0 => fun _ _ _ _ _ _ _ _ _ _ _ _ _ _ _ _ _ _ _ _ _ _ _ _ _ _ _ _ _ _ _ _ _ _ => false
  | n + 1 => fun x2 x3 f0_openSet f0_state f0_votes f0_heard f0_names f0_name f0_slot f0_parts f0_trouble f0_troubled f0_happened f0_commitCount f0_first f0_waiting f0_sent f0_lostCount a1 a2 a3 a4 a5 a6 a7 a8 a9 a10 a11 a12 a13 a14 a15 a16 => (zb_in x1 4 (zb_if (zb_le (Nat.add (Nat.mul x1 64) (zb_rd a2 x1)) x3) (zb_if (zb_eq x2 0) (kk f0_openSet f0_state f0_votes f0_heard f0_names f0_name f0_slot f0_parts f0_trouble f0_troubled f0_happened f0_commitCount f0_first f0_waiting f0_sent f0_lostCount a1 a2 a3 a4 a5 a6 a7 a8 a9 a10 a11 a12 a13 a14 a15 a16) (zq_pX_holdLogged (fun f0_openSet_7 f0_state_8 f0_votes_9 f0_heard_10 f0_names_11 f0_name_12 f0_slot_13 f0_parts_14 f0_trouble_15 f0_troubled_16 f0_happened_17 f0_commitCount_18 f0_first_19 f0_waiting_20 f0_sent_21 f0_lostCount_22 am1191_25 am1192_28 am1193_31 am1194_34 am1195_37 am1196_40 am1197_43 am1198_46 am1199_49 am11910_52 am11911_55 am11912_58 am11913_61 am11914_64 am11915_67 am11916_70 => (kk f0_openSet_7 f0_state_8 f0_votes_9 f0_heard_10 f0_names_11 f0_name_12 f0_slot_13 f0_parts_14 f0_trouble_15 f0_troubled_16 f0_happened_17 f0_commitCount_18 f0_first_19 f0_waiting_20 f0_sent_21 f0_lostCount_22 am1191_25 am1192_28 am1193_31 am1194_34 am1195_37 am1196_40 am1197_43 am1198_46 am1199_49 am11910_52 am11911_55 am11912_58 am11913_61 am11914_64 am11915_67 am11916_70)) f0_openSet f0_state f0_votes f0_heard f0_names f0_name f0_slot f0_parts f0_trouble f0_troubled f0_happened f0_commitCount f0_first f0_waiting f0_sent f0_lostCount a1 a2 a3 a4 a5 a6 a7 a8 a9 a10 a11 a12 a13 a14 a15 a16 x1 x2)) (zb_in x3 256 (zb_let (zb_rd a4 x3) (fun x4_72 => (zb_in x3 256 (zb_if (zb_eq (zb_rd a3 x3) 2) (zb_let (Nat.add x3 1) (fun x3_147 => (zq_X_comeBack_33 kk x1 n x4_72 x3_147 f0_openSet f0_state f0_votes f0_heard f0_names f0_name f0_slot f0_parts f0_trouble f0_troubled f0_happened f0_commitCount f0_first f0_waiting f0_sent f0_lostCount a1 a2 a3 a4 a5 a6 a7 a8 a9 a10 a11 a12 a13 a14 a15 a16))) (zb_in x3 256 (zb_if (zb_eq (zb_rd a3 x3) 3) (zq_pX_applyLogged (fun f0_openSet_82 f0_state_83 f0_votes_84 f0_heard_85 f0_names_86 f0_name_87 f0_slot_88 f0_parts_89 f0_trouble_90 f0_troubled_91 f0_happened_92 f0_commitCount_93 f0_first_94 f0_waiting_95 f0_sent_96 f0_lostCount_97 am861_100 am862_103 am863_106 am864_109 am865_112 am866_115 am867_118 am868_121 am869_124 am8610_127 am8611_130 am8612_133 am8613_136 am8614_139 am8615_142 am8616_145 => (zb_let (Nat.add x3 1) (fun x3_146 => (zq_X_comeBack_33 kk x1 n 0 x3_146 f0_openSet_82 f0_state_83 f0_votes_84 f0_heard_85 f0_names_86 f0_name_87 f0_slot_88 f0_parts_89 f0_trouble_90 f0_troubled_91 f0_happened_92 f0_commitCount_93 f0_first_94 f0_waiting_95 f0_sent_96 f0_lostCount_97 am861_100 am862_103 am863_106 am864_109 am865_112 am866_115 am867_118 am868_121 am869_124 am8610_127 am8611_130 am8612_133 am8613_136 am8614_139 am8615_142 am8616_145)))) f0_openSet f0_state f0_votes f0_heard f0_names f0_name f0_slot f0_parts f0_trouble f0_troubled f0_happened f0_commitCount f0_first f0_waiting f0_sent f0_lostCount a1 a2 a3 a4 a5 a6 a7 a8 a9 a10 a11 a12 a13 a14 a15 a16 x1 x4_72) (zb_in x3 256 (zb_if (zb_eq (zb_rd a3 x3) 4) (zb_let (Nat.add x3 1) (fun x3_80 => (zq_X_comeBack_33 kk x1 n 0 x3_80 f0_openSet f0_state f0_votes f0_heard f0_names f0_name f0_slot f0_parts f0_trouble f0_troubled f0_happened f0_commitCount f0_first f0_waiting f0_sent f0_lostCount a1 a2 a3 a4 a5 a6 a7 a8 a9 a10 a11 a12 a13 a14 a15 a16))) (zb_let (Nat.add x3 1) (fun x3_79 => (zq_X_comeBack_33 kk x1 n x2 x3_79 f0_openSet f0_state f0_votes f0_heard f0_names f0_name f0_slot f0_parts f0_trouble f0_troubled f0_happened f0_commitCount f0_first f0_waiting f0_sent f0_lostCount a1 a2 a3 a4 a5 a6 a7 a8 a9 a10 a11 a12 a13 a14 a15 a16))))))))))))))
theorem zr_X_comeBack_33 {c : Nat} (hc : c ≤ 1023) {post : St2 → Prop} {kk : Nat → Nat → Nat → Nat → Nat → Nat → Nat → Nat → Nat → Nat → Nat → Nat → Nat → Nat → Nat → Nat → Nat → Nat → Nat → Nat → Nat → Nat → Nat → Nat → Nat → Nat → Nat → Nat → Nat → Nat → Nat → Nat → Bool} (hk : ∀ {f1 f2 f3 f4 f5 f6 f7 f8 f9 f10 f11 f12 f13 f14 f15 f16 b1 b2 b3 b4 b5 b6 b7 b8 b9 b10 b11 b12 b13 b14 b15 b16 : Nat}, kk f1 f2 f3 f4 f5 f6 f7 f8 f9 f10 f11 f12 f13 f14 f15 f16 b1 b2 b3 b4 b5 b6 b7 b8 b9 b10 b11 b12 b13 b14 b15 b16 = true → post ((nI f1), (nI f2), (nI f3), (nI f4), (nI f5), (nI f6), (nI f7), (nI f8), (nI f9), (nI f10), (nI f11), (nI f12), (nI f13), (nI f14), (nI f15), (nI f16), (zb_va c b1), (zb_ka b2), (zb_ka b3), (zb_ka b4), (zb_ka b5), (zb_va c b6), (zb_va c b7), (zb_ka b8), (zb_ka b9), (zb_va c b10), (zb_ka b11), (zb_ka b12), (zb_ka b13), (zb_ka b14), (zb_ka b15), (zb_ka b16))) {x1 : Nat} {X_x1 : Int32} (e_x1 : X_x1 = nI x1) : ∀ (n : Nat) {x2 x3 f0_openSet f0_state f0_votes f0_heard f0_names f0_name f0_slot f0_parts f0_trouble f0_troubled f0_happened f0_commitCount f0_first f0_waiting f0_sent f0_lostCount a1 a2 a3 a4 a5 a6 a7 a8 a9 a10 a11 a12 a13 a14 a15 a16 : Nat} {X_x2 X_x3 : Int32}, X_x2 = nI x2 → X_x3 = nI x3 → zq_X_comeBack_33 kk x1 n x2 x3 f0_openSet f0_state f0_votes f0_heard f0_names f0_name f0_slot f0_parts f0_trouble f0_troubled f0_happened f0_commitCount f0_first f0_waiting f0_sent f0_lostCount a1 a2 a3 a4 a5 a6 a7 a8 a9 a10 a11 a12 a13 a14 a15 a16 = true → wX_comeBack_33 post X_x1 n X_x2 X_x3 (nI f0_openSet) (nI f0_state) (nI f0_votes) (nI f0_heard) (nI f0_names) (nI f0_name) (nI f0_slot) (nI f0_parts) (nI f0_trouble) (nI f0_troubled) (nI f0_happened) (nI f0_commitCount) (nI f0_first) (nI f0_waiting) (nI f0_sent) (nI f0_lostCount) (zb_va c a1) (zb_ka a2) (zb_ka a3) (zb_ka a4) (zb_ka a5) (zb_va c a6) (zb_va c a7) (zb_ka a8) (zb_ka a9) (zb_va c a10) (zb_ka a11) (zb_ka a12) (zb_ka a13) (zb_ka a14) (zb_ka a15) (zb_ka a16) := by
  subst e_x1
  intro n
  induction n with
  | zero =>
    intro x2 x3 f0_openSet f0_state f0_votes f0_heard f0_names f0_name f0_slot f0_parts f0_trouble f0_troubled f0_happened f0_commitCount f0_first f0_waiting f0_sent f0_lostCount a1 a2 a3 a4 a5 a6 a7 a8 a9 a10 a11 a12 a13 a14 a15 a16 X_x2 X_x3 e_x2 e_x3 h
    exact absurd (show false = true from h) Bool.false_ne_true
  | succ n ih =>
    intro x2 x3 f0_openSet f0_state f0_votes f0_heard f0_names f0_name f0_slot f0_parts f0_trouble f0_troubled f0_happened f0_commitCount f0_first f0_waiting f0_sent f0_lostCount a1 a2 a3 a4 a5 a6 a7 a8 a9 a10 a11 a12 a13 a14 a15 a16 X_x2 X_x3 e_x2 e_x3 h
    subst e_x2
    subst e_x3
    refine zb_in_ok rfl (by decide) h ?_
    intro h
    refine zb_if_ok (zb_leP (zb_addP (zb_mulP rfl (rfl : (64 : Int32) = nI 64)) (zb_rdK rfl)) rfl) h ?_ ?_
    · intro h
      refine zb_if_ok (zb_eqP rfl (rfl : (0 : Int32) = nI 0)) h ?_ ?_
      · intro h
        exact hk h
      · intro h
        refine zr_pX_holdLogged hc rfl rfl h ?_
        intro f0_openSet_7 f0_state_8 f0_votes_9 f0_heard_10 f0_names_11 f0_name_12 f0_slot_13 f0_parts_14 f0_trouble_15 f0_troubled_16 f0_happened_17 f0_commitCount_18 f0_first_19 f0_waiting_20 f0_sent_21 f0_lostCount_22 am1191_25 am1192_28 am1193_31 am1194_34 am1195_37 am1196_40 am1197_43 am1198_46 am1199_49 am11910_52 am11911_55 am11912_58 am11913_61 am11914_64 am11915_67 am11916_70 h
        exact hk h
    · intro h
      refine zb_in_ok rfl (by decide) h ?_
      intro h
      refine zb_let_k h (zb_rdK rfl) ?_
      intro h
      refine zb_in_ok rfl (by decide) h ?_
      intro h
      refine zb_if_ok (zb_eqP (zb_rdK rfl) (rfl : (2 : Int32) = nI 2)) h ?_ ?_
      · intro h
        refine zb_let_k h (zb_addP rfl (rfl : (1 : Int32) = nI 1)) ?_
        intro h
        exact ih rfl rfl h
      · intro h
        refine zb_in_ok rfl (by decide) h ?_
        intro h
        refine zb_if_ok (zb_eqP (zb_rdK rfl) (rfl : (3 : Int32) = nI 3)) h ?_ ?_
        · intro h
          refine zr_pX_applyLogged hc rfl rfl h ?_
          intro f0_openSet_82 f0_state_83 f0_votes_84 f0_heard_85 f0_names_86 f0_name_87 f0_slot_88 f0_parts_89 f0_trouble_90 f0_troubled_91 f0_happened_92 f0_commitCount_93 f0_first_94 f0_waiting_95 f0_sent_96 f0_lostCount_97 am861_100 am862_103 am863_106 am864_109 am865_112 am866_115 am867_118 am868_121 am869_124 am8610_127 am8611_130 am8612_133 am8613_136 am8614_139 am8615_142 am8616_145 h
          refine zb_let_k h (zb_addP rfl (rfl : (1 : Int32) = nI 1)) ?_
          intro h
          exact ih (rfl : (0 : Int32) = nI 0) rfl h
        · intro h
          refine zb_in_ok rfl (by decide) h ?_
          intro h
          refine zb_if_ok (zb_eqP (zb_rdK rfl) (rfl : (4 : Int32) = nI 4)) h ?_ ?_
          · intro h
            refine zb_let_k h (zb_addP rfl (rfl : (1 : Int32) = nI 1)) ?_
            intro h
            exact ih (rfl : (0 : Int32) = nI 0) rfl h
          · intro h
            refine zb_let_k h (zb_addP rfl (rfl : (1 : Int32) = nI 1)) ?_
            intro h
            exact ih rfl rfl h
noncomputable def zq_X_comeBack_2 (kk : Nat → Nat → Nat → Nat → Nat → Nat → Nat → Nat → Nat → Nat → Nat → Nat → Nat → Nat → Nat → Nat → Nat → Nat → Nat → Nat → Nat → Nat → Nat → Nat → Nat → Nat → Nat → Nat → Nat → Nat → Nat → Nat → Bool) (x1 f0_openSet f0_state f0_votes f0_heard f0_names f0_name f0_slot f0_parts f0_trouble f0_troubled f0_happened f0_commitCount f0_first f0_waiting f0_sent f0_lostCount : Nat) : Nat → Nat → Nat → Nat → Nat → Nat → Nat → Nat → Nat → Nat → Nat → Nat → Nat → Nat → Nat → Nat → Nat → Nat → Bool
  | 0 => fun _ _ _ _ _ _ _ _ _ _ _ _ _ _ _ _ _ => false
  | n + 1 => fun x2 a1 a2 a3 a4 a5 a6 a7 a8 a9 a10 a11 a12 a13 a14 a15 a16 => (zb_if (zb_le 12 x2) (zb_let (Nat.mul x1 64) (fun x3_2 => (zq_X_comeBack_33 kk x1 70 0 x3_2 f0_openSet f0_state f0_votes f0_heard f0_names f0_name f0_slot f0_parts f0_trouble f0_troubled f0_happened f0_commitCount f0_first f0_waiting f0_sent f0_lostCount a1 a2 a3 a4 a5 a6 a7 a8 a9 a10 a11 a12 a13 a14 a15 a16))) (zb_in x2 12 (zb_in x2 12 (zb_let (zb_wr a7 (zb_cl x2) (zb_rd a1 x2)) (fun a7_150 => (zb_let (Nat.add x2 3) (fun x2_151 => (zq_X_comeBack_2 kk x1 f0_openSet f0_state f0_votes f0_heard f0_names f0_name f0_slot f0_parts f0_trouble f0_troubled f0_happened f0_commitCount f0_first f0_waiting f0_sent f0_lostCount n x2_151 a1 a2 a3 a4 a5 a6 a7_150 a8 a9 a10 a11 a12 a13 a14 a15 a16))))))))
theorem zr_X_comeBack_2 {c : Nat} (hc : c ≤ 1023) {post : St2 → Prop} {kk : Nat → Nat → Nat → Nat → Nat → Nat → Nat → Nat → Nat → Nat → Nat → Nat → Nat → Nat → Nat → Nat → Nat → Nat → Nat → Nat → Nat → Nat → Nat → Nat → Nat → Nat → Nat → Nat → Nat → Nat → Nat → Nat → Bool} (hk : ∀ {f1 f2 f3 f4 f5 f6 f7 f8 f9 f10 f11 f12 f13 f14 f15 f16 b1 b2 b3 b4 b5 b6 b7 b8 b9 b10 b11 b12 b13 b14 b15 b16 : Nat}, kk f1 f2 f3 f4 f5 f6 f7 f8 f9 f10 f11 f12 f13 f14 f15 f16 b1 b2 b3 b4 b5 b6 b7 b8 b9 b10 b11 b12 b13 b14 b15 b16 = true → post ((nI f1), (nI f2), (nI f3), (nI f4), (nI f5), (nI f6), (nI f7), (nI f8), (nI f9), (nI f10), (nI f11), (nI f12), (nI f13), (nI f14), (nI f15), (nI f16), (zb_va c b1), (zb_ka b2), (zb_ka b3), (zb_ka b4), (zb_ka b5), (zb_va c b6), (zb_va c b7), (zb_ka b8), (zb_ka b9), (zb_va c b10), (zb_ka b11), (zb_ka b12), (zb_ka b13), (zb_ka b14), (zb_ka b15), (zb_ka b16))) {x1 f0_openSet f0_state f0_votes f0_heard f0_names f0_name f0_slot f0_parts f0_trouble f0_troubled f0_happened f0_commitCount f0_first f0_waiting f0_sent f0_lostCount : Nat} {X_x1 : Int32} (e_x1 : X_x1 = nI x1) : ∀ (n : Nat) {x2 a1 a2 a3 a4 a5 a6 a7 a8 a9 a10 a11 a12 a13 a14 a15 a16 : Nat} {X_x2 : Int32}, X_x2 = nI x2 → zq_X_comeBack_2 kk x1 f0_openSet f0_state f0_votes f0_heard f0_names f0_name f0_slot f0_parts f0_trouble f0_troubled f0_happened f0_commitCount f0_first f0_waiting f0_sent f0_lostCount n x2 a1 a2 a3 a4 a5 a6 a7 a8 a9 a10 a11 a12 a13 a14 a15 a16 = true → wX_comeBack_2 post X_x1 (nI f0_openSet) (nI f0_state) (nI f0_votes) (nI f0_heard) (nI f0_names) (nI f0_name) (nI f0_slot) (nI f0_parts) (nI f0_trouble) (nI f0_troubled) (nI f0_happened) (nI f0_commitCount) (nI f0_first) (nI f0_waiting) (nI f0_sent) (nI f0_lostCount) n X_x2 (zb_va c a1) (zb_ka a2) (zb_ka a3) (zb_ka a4) (zb_ka a5) (zb_va c a6) (zb_va c a7) (zb_ka a8) (zb_ka a9) (zb_va c a10) (zb_ka a11) (zb_ka a12) (zb_ka a13) (zb_ka a14) (zb_ka a15) (zb_ka a16) := by
  subst e_x1
  intro n
  induction n with
  | zero =>
    intro x2 a1 a2 a3 a4 a5 a6 a7 a8 a9 a10 a11 a12 a13 a14 a15 a16 X_x2 e_x2 h
    exact absurd (show false = true from h) Bool.false_ne_true
  | succ n ih =>
    intro x2 a1 a2 a3 a4 a5 a6 a7 a8 a9 a10 a11 a12 a13 a14 a15 a16 X_x2 e_x2 h
    subst e_x2
    refine zb_if_ok (zb_leP (rfl : (12 : Int32) = nI 12) rfl) h ?_ ?_
    · intro h
      refine zb_let_k h (zb_mulP rfl (rfl : (64 : Int32) = nI 64)) ?_
      intro h
      refine ⟨70, ?_⟩
      exact zr_X_comeBack_33 hc hk rfl _ (rfl : (0 : Int32) = nI 0) rfl h
    · intro h
      refine zb_in_ok rfl (by decide) h ?_
      intro h
      refine zb_in_ok rfl (by decide) h ?_
      intro h
      refine zb_let_va h (zb_upV rfl (zb_rdV rfl)) ?_
      intro h
      refine zb_let_k h (zb_addP rfl (rfl : (3 : Int32) = nI 3)) ?_
      intro h
      exact ih rfl h
noncomputable def zq_pX_comeBack (kk : Nat → Nat → Nat → Nat → Nat → Nat → Nat → Nat → Nat → Nat → Nat → Nat → Nat → Nat → Nat → Nat → Nat → Nat → Nat → Nat → Nat → Nat → Nat → Nat → Nat → Nat → Nat → Nat → Nat → Nat → Nat → Nat → Bool) (f0_openSet f0_state f0_votes f0_heard f0_names f0_name f0_slot f0_parts f0_trouble f0_troubled f0_happened f0_commitCount f0_first f0_waiting f0_sent f0_lostCount a1 a2 a3 a4 a5 a6 a7 a8 a9 a10 a11 a12 a13 a14 a15 a16 p0 : Nat) : Bool := (zq_X_comeBack_2 kk p0 f0_openSet f0_state f0_votes f0_heard f0_names f0_name f0_slot f0_parts f0_trouble f0_troubled f0_happened f0_commitCount f0_first f0_waiting f0_sent f0_lostCount 70 p0 a1 a2 a3 a4 a5 a6 a7 a8 a9 a10 a11 a12 a13 a14 a15 a16)
theorem zr_pX_comeBack {c : Nat} (hc : c ≤ 1023) {post : St2 → Prop} {kk : Nat → Nat → Nat → Nat → Nat → Nat → Nat → Nat → Nat → Nat → Nat → Nat → Nat → Nat → Nat → Nat → Nat → Nat → Nat → Nat → Nat → Nat → Nat → Nat → Nat → Nat → Nat → Nat → Nat → Nat → Nat → Nat → Bool} {f0_openSet f0_state f0_votes f0_heard f0_names f0_name f0_slot f0_parts f0_trouble f0_troubled f0_happened f0_commitCount f0_first f0_waiting f0_sent f0_lostCount a1 a2 a3 a4 a5 a6 a7 a8 a9 a10 a11 a12 a13 a14 a15 a16 p0 : Nat} {X_p0 : Int32} (e_p0 : X_p0 = nI p0) (h : zq_pX_comeBack kk f0_openSet f0_state f0_votes f0_heard f0_names f0_name f0_slot f0_parts f0_trouble f0_troubled f0_happened f0_commitCount f0_first f0_waiting f0_sent f0_lostCount a1 a2 a3 a4 a5 a6 a7 a8 a9 a10 a11 a12 a13 a14 a15 a16 p0 = true) (hk : ∀ {f1 f2 f3 f4 f5 f6 f7 f8 f9 f10 f11 f12 f13 f14 f15 f16 b1 b2 b3 b4 b5 b6 b7 b8 b9 b10 b11 b12 b13 b14 b15 b16 : Nat}, kk f1 f2 f3 f4 f5 f6 f7 f8 f9 f10 f11 f12 f13 f14 f15 f16 b1 b2 b3 b4 b5 b6 b7 b8 b9 b10 b11 b12 b13 b14 b15 b16 = true → post ((nI f1), (nI f2), (nI f3), (nI f4), (nI f5), (nI f6), (nI f7), (nI f8), (nI f9), (nI f10), (nI f11), (nI f12), (nI f13), (nI f14), (nI f15), (nI f16), (zb_va c b1), (zb_ka b2), (zb_ka b3), (zb_ka b4), (zb_ka b5), (zb_va c b6), (zb_va c b7), (zb_ka b8), (zb_ka b9), (zb_va c b10), (zb_ka b11), (zb_ka b12), (zb_ka b13), (zb_ka b14), (zb_ka b15), (zb_ka b16))) : wpX_comeBack post ((nI f0_openSet), (nI f0_state), (nI f0_votes), (nI f0_heard), (nI f0_names), (nI f0_name), (nI f0_slot), (nI f0_parts), (nI f0_trouble), (nI f0_troubled), (nI f0_happened), (nI f0_commitCount), (nI f0_first), (nI f0_waiting), (nI f0_sent), (nI f0_lostCount), (zb_va c a1), (zb_ka a2), (zb_ka a3), (zb_ka a4), (zb_ka a5), (zb_va c a6), (zb_va c a7), (zb_ka a8), (zb_ka a9), (zb_va c a10), (zb_ka a11), (zb_ka a12), (zb_ka a13), (zb_ka a14), (zb_ka a15), (zb_ka a16)) X_p0 := by
  subst e_p0
  unfold zq_pX_comeBack at h
  unfold wpX_comeBack
  refine ⟨70, ?_⟩
  exact zr_X_comeBack_2 hc hk rfl _ rfl h
end
section
noncomputable def zq_X_releaseOn_33 (kk : Nat → Nat → Nat → Nat → Nat → Nat → Nat → Nat → Nat → Nat → Nat → Nat → Nat → Nat → Nat → Nat → Nat → Nat → Nat → Nat → Nat → Nat → Nat → Nat → Nat → Nat → Nat → Nat → Nat → Nat → Nat → Nat → Bool) (kJ : Nat → Nat → Nat → Nat → Nat → Nat → Nat → Nat → Nat → Nat → Nat → Nat → Nat → Nat → Nat → Nat → Nat → Bool) (x1 x2 x3 z0 z1 f0_openSet f0_state f0_votes f0_heard f0_names f0_name f0_slot f0_parts f0_trouble f0_troubled f0_happened f0_commitCount f0_first f0_waiting f0_sent f0_lostCount a1 a2 a3 a4 a5 a6 a7 a8 a9 a10 a11 a12 a13 a14 a15 a16 : Nat) : Bool := (zb_in z1 12 (zb_let (zb_wr a8 (zb_cl z1) (zb_i8 z0)) (fun a8_8 => (zb_in x1 4 (zb_in x1 4 (zb_let (zb_wr a9 (zb_cl x1) (zb_i16 (Nat.land (zb_rd a9 x1) (Nat.xor (zb_shl 1 x3) 4294967295)))) (fun a9_11 => (zb_let (Nat.add x3 3) (fun x3_12 => (kJ x3_12 a1 a2 a3 a4 a5 a6 a7 a8_8 a9_11 a10 a11 a12 a13 a14 a15 a16))))))))))
theorem zr_X_releaseOn_33 {c : Nat} (hc : c ≤ 1023) {post : St2 → Prop} {kk : Nat → Nat → Nat → Nat → Nat → Nat → Nat → Nat → Nat → Nat → Nat → Nat → Nat → Nat → Nat → Nat → Nat → Nat → Nat → Nat → Nat → Nat → Nat → Nat → Nat → Nat → Nat → Nat → Nat → Nat → Nat → Nat → Bool} {J : Int32 → (Nat → Int32) → (Nat → Int32) → (Nat → Int32) → (Nat → Int32) → (Nat → Int32) → (Nat → Int32) → (Nat → Int32) → (Nat → Int32) → (Nat → Int32) → (Nat → Int32) → (Nat → Int32) → (Nat → Int32) → (Nat → Int32) → (Nat → Int32) → (Nat → Int32) → (Nat → Int32) → Prop} {kJ : Nat → Nat → Nat → Nat → Nat → Nat → Nat → Nat → Nat → Nat → Nat → Nat → Nat → Nat → Nat → Nat → Nat → Bool} {x1 x2 x3 z0 z1 f0_openSet f0_state f0_votes f0_heard f0_names f0_name f0_slot f0_parts f0_trouble f0_troubled f0_happened f0_commitCount f0_first f0_waiting f0_sent f0_lostCount a1 a2 a3 a4 a5 a6 a7 a8 a9 a10 a11 a12 a13 a14 a15 a16 : Nat} {X_x1 : Int32} (e_x1 : X_x1 = nI x1) {X_x2 : Int32} (e_x2 : X_x2 = nI x2) {X_x3 : Int32} (e_x3 : X_x3 = nI x3) {X_z0 : Int32} (e_z0 : X_z0 = nI z0) {X_z1 : Int32} (e_z1 : X_z1 = nI z1) (h : zq_X_releaseOn_33 kk kJ x1 x2 x3 z0 z1 f0_openSet f0_state f0_votes f0_heard f0_names f0_name f0_slot f0_parts f0_trouble f0_troubled f0_happened f0_commitCount f0_first f0_waiting f0_sent f0_lostCount a1 a2 a3 a4 a5 a6 a7 a8 a9 a10 a11 a12 a13 a14 a15 a16 = true) (hJ : ∀ {x3_ a1_ a2_ a3_ a4_ a5_ a6_ a7_ a8_ a9_ a10_ a11_ a12_ a13_ a14_ a15_ a16_ : Nat}, kJ x3_ a1_ a2_ a3_ a4_ a5_ a6_ a7_ a8_ a9_ a10_ a11_ a12_ a13_ a14_ a15_ a16_ = true → J (nI x3_) (zb_va c a1_) (zb_ka a2_) (zb_ka a3_) (zb_ka a4_) (zb_ka a5_) (zb_va c a6_) (zb_va c a7_) (zb_ka a8_) (zb_ka a9_) (zb_va c a10_) (zb_ka a11_) (zb_ka a12_) (zb_ka a13_) (zb_ka a14_) (zb_ka a15_) (zb_ka a16_)) (hk : ∀ {f1 f2 f3 f4 f5 f6 f7 f8 f9 f10 f11 f12 f13 f14 f15 f16 b1 b2 b3 b4 b5 b6 b7 b8 b9 b10 b11 b12 b13 b14 b15 b16 : Nat}, kk f1 f2 f3 f4 f5 f6 f7 f8 f9 f10 f11 f12 f13 f14 f15 f16 b1 b2 b3 b4 b5 b6 b7 b8 b9 b10 b11 b12 b13 b14 b15 b16 = true → post ((nI f1), (nI f2), (nI f3), (nI f4), (nI f5), (nI f6), (nI f7), (nI f8), (nI f9), (nI f10), (nI f11), (nI f12), (nI f13), (nI f14), (nI f15), (nI f16), (zb_va c b1), (zb_ka b2), (zb_ka b3), (zb_ka b4), (zb_ka b5), (zb_va c b6), (zb_va c b7), (zb_ka b8), (zb_ka b9), (zb_va c b10), (zb_ka b11), (zb_ka b12), (zb_ka b13), (zb_ka b14), (zb_ka b15), (zb_ka b16))) : wX_releaseOn_33 post J X_x1 X_x2 X_x3 X_z0 X_z1 (nI f0_openSet) (nI f0_state) (nI f0_votes) (nI f0_heard) (nI f0_names) (nI f0_name) (nI f0_slot) (nI f0_parts) (nI f0_trouble) (nI f0_troubled) (nI f0_happened) (nI f0_commitCount) (nI f0_first) (nI f0_waiting) (nI f0_sent) (nI f0_lostCount) (zb_va c a1) (zb_ka a2) (zb_ka a3) (zb_ka a4) (zb_ka a5) (zb_va c a6) (zb_va c a7) (zb_ka a8) (zb_ka a9) (zb_va c a10) (zb_ka a11) (zb_ka a12) (zb_ka a13) (zb_ka a14) (zb_ka a15) (zb_ka a16) := by
  subst e_x1
  subst e_x2
  subst e_x3
  subst e_z0
  subst e_z1
  unfold zq_X_releaseOn_33 at h
  unfold wX_releaseOn_33
  refine zb_in_ok rfl (by decide) h ?_
  intro h
  refine zb_let_ka h (zb_upK rfl (zb_narP rfl)) ?_
  intro h
  refine zb_in_ok rfl (by decide) h ?_
  intro h
  refine zb_in_ok rfl (by decide) h ?_
  intro h
  refine zb_let_ka h (zb_upK rfl (zb_i16P (zb_andP (zb_rdK rfl) (zb_xorP (zb_shlP (rfl : (1 : Int32) = nI 1) rfl) zb_m1)))) ?_
  intro h
  refine zb_let_k h (zb_addP rfl (rfl : (3 : Int32) = nI 3)) ?_
  intro h
  exact hJ h
noncomputable def zq_X_releaseOn_2 (kk : Nat → Nat → Nat → Nat → Nat → Nat → Nat → Nat → Nat → Nat → Nat → Nat → Nat → Nat → Nat → Nat → Nat → Nat → Nat → Nat → Nat → Nat → Nat → Nat → Nat → Nat → Nat → Nat → Nat → Nat → Nat → Nat → Bool) (x1 x2 f0_openSet f0_state f0_votes f0_heard f0_names f0_name f0_slot f0_parts f0_trouble f0_troubled f0_happened f0_commitCount f0_first f0_waiting f0_sent f0_lostCount : Nat) : Nat → Nat → Nat → Nat → Nat → Nat → Nat → Nat → Nat → Nat → Nat → Nat → Nat → Nat → Nat → Nat → Nat → Nat → Bool
  | 0 => fun _ _ _ _ _ _ _ _ _ _ _ _ _ _ _ _ _ => false
  | n + 1 => fun x3 a1 a2 a3 a4 a5 a6 a7 a8 a9 a10 a11 a12 a13 a14 a15 a16 => (zb_if (zb_le 12 x3) (zb_in (Nat.add (Nat.mul x1 3) x2) 12 (zb_let (zb_wr a11 (zb_cl (Nat.add (Nat.mul x1 3) x2)) 0) (fun a11_3 => (kk f0_openSet f0_state f0_votes f0_heard f0_names f0_name f0_slot f0_parts f0_trouble f0_troubled f0_happened f0_commitCount f0_first f0_waiting f0_sent f0_lostCount a1 a2 a3 a4 a5 a6 a7 a8 a9 a10 a11_3 a12 a13 a14 a15 a16)))) (zb_in x3 12 (zb_if (zb_eq (zb_rd a8 x3) x1) (zq_X_releaseOn_33 kk (zq_X_releaseOn_2 kk x1 x2 f0_openSet f0_state f0_votes f0_heard f0_names f0_name f0_slot f0_parts f0_trouble f0_troubled f0_happened f0_commitCount f0_first f0_waiting f0_sent f0_lostCount n) x1 x2 x3 4294967295 x3 f0_openSet f0_state f0_votes f0_heard f0_names f0_name f0_slot f0_parts f0_trouble f0_troubled f0_happened f0_commitCount f0_first f0_waiting f0_sent f0_lostCount a1 a2 a3 a4 a5 a6 a7 a8 a9 a10 a11 a12 a13 a14 a15 a16) (zb_in x3 12 (zq_X_releaseOn_33 kk (zq_X_releaseOn_2 kk x1 x2 f0_openSet f0_state f0_votes f0_heard f0_names f0_name f0_slot f0_parts f0_trouble f0_troubled f0_happened f0_commitCount f0_first f0_waiting f0_sent f0_lostCount n) x1 x2 x3 (zb_rd a8 x3) x3 f0_openSet f0_state f0_votes f0_heard f0_names f0_name f0_slot f0_parts f0_trouble f0_troubled f0_happened f0_commitCount f0_first f0_waiting f0_sent f0_lostCount a1 a2 a3 a4 a5 a6 a7 a8 a9 a10 a11 a12 a13 a14 a15 a16)))))
theorem zr_X_releaseOn_2 {c : Nat} (hc : c ≤ 1023) {post : St2 → Prop} {kk : Nat → Nat → Nat → Nat → Nat → Nat → Nat → Nat → Nat → Nat → Nat → Nat → Nat → Nat → Nat → Nat → Nat → Nat → Nat → Nat → Nat → Nat → Nat → Nat → Nat → Nat → Nat → Nat → Nat → Nat → Nat → Nat → Bool} (hk : ∀ {f1 f2 f3 f4 f5 f6 f7 f8 f9 f10 f11 f12 f13 f14 f15 f16 b1 b2 b3 b4 b5 b6 b7 b8 b9 b10 b11 b12 b13 b14 b15 b16 : Nat}, kk f1 f2 f3 f4 f5 f6 f7 f8 f9 f10 f11 f12 f13 f14 f15 f16 b1 b2 b3 b4 b5 b6 b7 b8 b9 b10 b11 b12 b13 b14 b15 b16 = true → post ((nI f1), (nI f2), (nI f3), (nI f4), (nI f5), (nI f6), (nI f7), (nI f8), (nI f9), (nI f10), (nI f11), (nI f12), (nI f13), (nI f14), (nI f15), (nI f16), (zb_va c b1), (zb_ka b2), (zb_ka b3), (zb_ka b4), (zb_ka b5), (zb_va c b6), (zb_va c b7), (zb_ka b8), (zb_ka b9), (zb_va c b10), (zb_ka b11), (zb_ka b12), (zb_ka b13), (zb_ka b14), (zb_ka b15), (zb_ka b16))) {x1 x2 f0_openSet f0_state f0_votes f0_heard f0_names f0_name f0_slot f0_parts f0_trouble f0_troubled f0_happened f0_commitCount f0_first f0_waiting f0_sent f0_lostCount : Nat} {X_x1 : Int32} (e_x1 : X_x1 = nI x1) {X_x2 : Int32} (e_x2 : X_x2 = nI x2) : ∀ (n : Nat) {x3 a1 a2 a3 a4 a5 a6 a7 a8 a9 a10 a11 a12 a13 a14 a15 a16 : Nat} {X_x3 : Int32}, X_x3 = nI x3 → zq_X_releaseOn_2 kk x1 x2 f0_openSet f0_state f0_votes f0_heard f0_names f0_name f0_slot f0_parts f0_trouble f0_troubled f0_happened f0_commitCount f0_first f0_waiting f0_sent f0_lostCount n x3 a1 a2 a3 a4 a5 a6 a7 a8 a9 a10 a11 a12 a13 a14 a15 a16 = true → wX_releaseOn_2 post X_x1 X_x2 (nI f0_openSet) (nI f0_state) (nI f0_votes) (nI f0_heard) (nI f0_names) (nI f0_name) (nI f0_slot) (nI f0_parts) (nI f0_trouble) (nI f0_troubled) (nI f0_happened) (nI f0_commitCount) (nI f0_first) (nI f0_waiting) (nI f0_sent) (nI f0_lostCount) n X_x3 (zb_va c a1) (zb_ka a2) (zb_ka a3) (zb_ka a4) (zb_ka a5) (zb_va c a6) (zb_va c a7) (zb_ka a8) (zb_ka a9) (zb_va c a10) (zb_ka a11) (zb_ka a12) (zb_ka a13) (zb_ka a14) (zb_ka a15) (zb_ka a16) := by
  subst e_x1
  subst e_x2
  intro n
  induction n with
  | zero =>
    intro x3 a1 a2 a3 a4 a5 a6 a7 a8 a9 a10 a11 a12 a13 a14 a15 a16 X_x3 e_x3 h
    exact absurd (show false = true from h) Bool.false_ne_true
  | succ n ih =>
    intro x3 a1 a2 a3 a4 a5 a6 a7 a8 a9 a10 a11 a12 a13 a14 a15 a16 X_x3 e_x3 h
    subst e_x3
    refine zb_if_ok (zb_leP (rfl : (12 : Int32) = nI 12) rfl) h ?_ ?_
    · intro h
      refine zb_in_ok (zb_addP (zb_mulP rfl (rfl : (3 : Int32) = nI 3)) rfl) (by decide) h ?_
      intro h
      refine zb_let_ka h (zb_upK (zb_addP (zb_mulP rfl (rfl : (3 : Int32) = nI 3)) rfl) (rfl : (0 : Int32) = nI 0)) ?_
      intro h
      exact hk h
    · intro h
      refine zb_in_ok rfl (by decide) h ?_
      intro h
      refine zb_if_ok (zb_eqP (zb_rdK rfl) rfl) h ?_ ?_
      · intro h
        exact zr_X_releaseOn_33 hc rfl rfl rfl zb_m1 rfl h (fun h => ih rfl h) hk
      · intro h
        refine zb_in_ok rfl (by decide) h ?_
        intro h
        exact zr_X_releaseOn_33 hc rfl rfl rfl (zb_rdK rfl) rfl h (fun h => ih rfl h) hk
noncomputable def zq_pX_releaseOn (kk : Nat → Nat → Nat → Nat → Nat → Nat → Nat → Nat → Nat → Nat → Nat → Nat → Nat → Nat → Nat → Nat → Nat → Nat → Nat → Nat → Nat → Nat → Nat → Nat → Nat → Nat → Nat → Nat → Nat → Nat → Nat → Nat → Bool) (f0_openSet f0_state f0_votes f0_heard f0_names f0_name f0_slot f0_parts f0_trouble f0_troubled f0_happened f0_commitCount f0_first f0_waiting f0_sent f0_lostCount a1 a2 a3 a4 a5 a6 a7 a8 a9 a10 a11 a12 a13 a14 a15 a16 p0 p1 : Nat) : Bool := (zq_X_releaseOn_2 kk p0 p1 f0_openSet f0_state f0_votes f0_heard f0_names f0_name f0_slot f0_parts f0_trouble f0_troubled f0_happened f0_commitCount f0_first f0_waiting f0_sent f0_lostCount 70 p1 a1 a2 a3 a4 a5 a6 a7 a8 a9 a10 a11 a12 a13 a14 a15 a16)
theorem zr_pX_releaseOn {c : Nat} (hc : c ≤ 1023) {post : St2 → Prop} {kk : Nat → Nat → Nat → Nat → Nat → Nat → Nat → Nat → Nat → Nat → Nat → Nat → Nat → Nat → Nat → Nat → Nat → Nat → Nat → Nat → Nat → Nat → Nat → Nat → Nat → Nat → Nat → Nat → Nat → Nat → Nat → Nat → Bool} {f0_openSet f0_state f0_votes f0_heard f0_names f0_name f0_slot f0_parts f0_trouble f0_troubled f0_happened f0_commitCount f0_first f0_waiting f0_sent f0_lostCount a1 a2 a3 a4 a5 a6 a7 a8 a9 a10 a11 a12 a13 a14 a15 a16 p0 p1 : Nat} {X_p0 : Int32} (e_p0 : X_p0 = nI p0) {X_p1 : Int32} (e_p1 : X_p1 = nI p1) (h : zq_pX_releaseOn kk f0_openSet f0_state f0_votes f0_heard f0_names f0_name f0_slot f0_parts f0_trouble f0_troubled f0_happened f0_commitCount f0_first f0_waiting f0_sent f0_lostCount a1 a2 a3 a4 a5 a6 a7 a8 a9 a10 a11 a12 a13 a14 a15 a16 p0 p1 = true) (hk : ∀ {f1 f2 f3 f4 f5 f6 f7 f8 f9 f10 f11 f12 f13 f14 f15 f16 b1 b2 b3 b4 b5 b6 b7 b8 b9 b10 b11 b12 b13 b14 b15 b16 : Nat}, kk f1 f2 f3 f4 f5 f6 f7 f8 f9 f10 f11 f12 f13 f14 f15 f16 b1 b2 b3 b4 b5 b6 b7 b8 b9 b10 b11 b12 b13 b14 b15 b16 = true → post ((nI f1), (nI f2), (nI f3), (nI f4), (nI f5), (nI f6), (nI f7), (nI f8), (nI f9), (nI f10), (nI f11), (nI f12), (nI f13), (nI f14), (nI f15), (nI f16), (zb_va c b1), (zb_ka b2), (zb_ka b3), (zb_ka b4), (zb_ka b5), (zb_va c b6), (zb_va c b7), (zb_ka b8), (zb_ka b9), (zb_va c b10), (zb_ka b11), (zb_ka b12), (zb_ka b13), (zb_ka b14), (zb_ka b15), (zb_ka b16))) : wpX_releaseOn post ((nI f0_openSet), (nI f0_state), (nI f0_votes), (nI f0_heard), (nI f0_names), (nI f0_name), (nI f0_slot), (nI f0_parts), (nI f0_trouble), (nI f0_troubled), (nI f0_happened), (nI f0_commitCount), (nI f0_first), (nI f0_waiting), (nI f0_sent), (nI f0_lostCount), (zb_va c a1), (zb_ka a2), (zb_ka a3), (zb_ka a4), (zb_ka a5), (zb_va c a6), (zb_va c a7), (zb_ka a8), (zb_ka a9), (zb_va c a10), (zb_ka a11), (zb_ka a12), (zb_ka a13), (zb_ka a14), (zb_ka a15), (zb_ka a16)) X_p0 X_p1 := by
  subst e_p0
  subst e_p1
  unfold zq_pX_releaseOn at h
  unfold wpX_releaseOn
  refine ⟨70, ?_⟩
  exact zr_X_releaseOn_2 hc hk rfl rfl _ rfl h
noncomputable def zq_X_rollBack_2 (kk : Nat → Nat → Nat → Nat → Nat → Nat → Nat → Nat → Nat → Nat → Nat → Nat → Nat → Nat → Nat → Nat → Nat → Nat → Nat → Nat → Nat → Nat → Nat → Nat → Nat → Nat → Nat → Nat → Nat → Nat → Nat → Nat → Bool) (x1 : Nat) : Nat → Nat → Nat → Nat → Nat → Nat → Nat → Nat → Nat → Nat → Nat → Nat → Nat → Nat → Nat → Nat → Nat → Nat → Nat → Nat → Nat → Nat → Nat → Nat → Nat → Nat → Nat → Nat → Nat → Nat → Nat → Nat → Nat → Nat → Bool
  | 0 => fun _ _ _ _ _ _ _ _ _ _ _ _ _ _ _ _ _ _ _ _ _ _ _ _ _ _ _ _ _ _ _ _ _ => false
  | n + 1 => fun x2 f0_openSet f0_state f0_votes f0_heard f0_names f0_name f0_slot f0_parts f0_trouble f0_troubled f0_happened f0_commitCount f0_first f0_waiting f0_sent f0_lostCount a1 a2 a3 a4 a5 a6 a7 a8 a9 a10 a11 a12 a13 a14 a15 a16 => (zb_if (zb_le 3 x2) (zb_let (Nat.land f0_openSet (Nat.xor (zb_shl 1 x1) 4294967295)) (fun f_2 => (kk f_2 f0_state f0_votes f0_heard f0_names f0_name f0_slot f0_parts f0_trouble f0_troubled f0_happened f0_commitCount f0_first f0_waiting f0_sent f0_lostCount a1 a2 a3 a4 a5 a6 a7 a8 a9 a10 a11 a12 a13 a14 a15 a16))) (zq_pX_releaseOn (fun f0_openSet_4 f0_state_5 f0_votes_6 f0_heard_7 f0_names_8 f0_name_9 f0_slot_10 f0_parts_11 f0_trouble_12 f0_troubled_13 f0_happened_14 f0_commitCount_15 f0_first_16 f0_waiting_17 f0_sent_18 f0_lostCount_19 am101_22 am102_25 am103_28 am104_31 am105_34 am106_37 am107_40 am108_43 am109_46 am1010_49 am1011_52 am1012_55 am1013_58 am1014_61 am1015_64 am1016_67 => (zb_let (Nat.add x2 1) (fun x2_68 => (zq_X_rollBack_2 kk x1 n x2_68 f0_openSet_4 f0_state_5 f0_votes_6 f0_heard_7 f0_names_8 f0_name_9 f0_slot_10 f0_parts_11 f0_trouble_12 f0_troubled_13 f0_happened_14 f0_commitCount_15 f0_first_16 f0_waiting_17 f0_sent_18 f0_lostCount_19 am101_22 am102_25 am103_28 am104_31 am105_34 am106_37 am107_40 am108_43 am109_46 am1010_49 am1011_52 am1012_55 am1013_58 am1014_61 am1015_64 am1016_67)))) f0_openSet f0_state f0_votes f0_heard f0_names f0_name f0_slot f0_parts f0_trouble f0_troubled f0_happened f0_commitCount f0_first f0_waiting f0_sent f0_lostCount a1 a2 a3 a4 a5 a6 a7 a8 a9 a10 a11 a12 a13 a14 a15 a16 x1 x2))
theorem zr_X_rollBack_2 {c : Nat} (hc : c ≤ 1023) {post : St2 → Prop} {kk : Nat → Nat → Nat → Nat → Nat → Nat → Nat → Nat → Nat → Nat → Nat → Nat → Nat → Nat → Nat → Nat → Nat → Nat → Nat → Nat → Nat → Nat → Nat → Nat → Nat → Nat → Nat → Nat → Nat → Nat → Nat → Nat → Bool} (hk : ∀ {f1 f2 f3 f4 f5 f6 f7 f8 f9 f10 f11 f12 f13 f14 f15 f16 b1 b2 b3 b4 b5 b6 b7 b8 b9 b10 b11 b12 b13 b14 b15 b16 : Nat}, kk f1 f2 f3 f4 f5 f6 f7 f8 f9 f10 f11 f12 f13 f14 f15 f16 b1 b2 b3 b4 b5 b6 b7 b8 b9 b10 b11 b12 b13 b14 b15 b16 = true → post ((nI f1), (nI f2), (nI f3), (nI f4), (nI f5), (nI f6), (nI f7), (nI f8), (nI f9), (nI f10), (nI f11), (nI f12), (nI f13), (nI f14), (nI f15), (nI f16), (zb_va c b1), (zb_ka b2), (zb_ka b3), (zb_ka b4), (zb_ka b5), (zb_va c b6), (zb_va c b7), (zb_ka b8), (zb_ka b9), (zb_va c b10), (zb_ka b11), (zb_ka b12), (zb_ka b13), (zb_ka b14), (zb_ka b15), (zb_ka b16))) {x1 : Nat} {X_x1 : Int32} (e_x1 : X_x1 = nI x1) : ∀ (n : Nat) {x2 f0_openSet f0_state f0_votes f0_heard f0_names f0_name f0_slot f0_parts f0_trouble f0_troubled f0_happened f0_commitCount f0_first f0_waiting f0_sent f0_lostCount a1 a2 a3 a4 a5 a6 a7 a8 a9 a10 a11 a12 a13 a14 a15 a16 : Nat} {X_x2 : Int32}, X_x2 = nI x2 → zq_X_rollBack_2 kk x1 n x2 f0_openSet f0_state f0_votes f0_heard f0_names f0_name f0_slot f0_parts f0_trouble f0_troubled f0_happened f0_commitCount f0_first f0_waiting f0_sent f0_lostCount a1 a2 a3 a4 a5 a6 a7 a8 a9 a10 a11 a12 a13 a14 a15 a16 = true → wX_rollBack_2 post X_x1 n X_x2 (nI f0_openSet) (nI f0_state) (nI f0_votes) (nI f0_heard) (nI f0_names) (nI f0_name) (nI f0_slot) (nI f0_parts) (nI f0_trouble) (nI f0_troubled) (nI f0_happened) (nI f0_commitCount) (nI f0_first) (nI f0_waiting) (nI f0_sent) (nI f0_lostCount) (zb_va c a1) (zb_ka a2) (zb_ka a3) (zb_ka a4) (zb_ka a5) (zb_va c a6) (zb_va c a7) (zb_ka a8) (zb_ka a9) (zb_va c a10) (zb_ka a11) (zb_ka a12) (zb_ka a13) (zb_ka a14) (zb_ka a15) (zb_ka a16) := by
  subst e_x1
  intro n
  induction n with
  | zero =>
    intro x2 f0_openSet f0_state f0_votes f0_heard f0_names f0_name f0_slot f0_parts f0_trouble f0_troubled f0_happened f0_commitCount f0_first f0_waiting f0_sent f0_lostCount a1 a2 a3 a4 a5 a6 a7 a8 a9 a10 a11 a12 a13 a14 a15 a16 X_x2 e_x2 h
    exact absurd (show false = true from h) Bool.false_ne_true
  | succ n ih =>
    intro x2 f0_openSet f0_state f0_votes f0_heard f0_names f0_name f0_slot f0_parts f0_trouble f0_troubled f0_happened f0_commitCount f0_first f0_waiting f0_sent f0_lostCount a1 a2 a3 a4 a5 a6 a7 a8 a9 a10 a11 a12 a13 a14 a15 a16 X_x2 e_x2 h
    subst e_x2
    refine zb_if_ok (zb_leP (rfl : (3 : Int32) = nI 3) rfl) h ?_ ?_
    · intro h
      refine zb_let_k h (zb_andP rfl (zb_xorP (zb_shlP (rfl : (1 : Int32) = nI 1) rfl) zb_m1)) ?_
      intro h
      exact hk h
    · intro h
      refine zr_pX_releaseOn hc rfl rfl h ?_
      intro f0_openSet_4 f0_state_5 f0_votes_6 f0_heard_7 f0_names_8 f0_name_9 f0_slot_10 f0_parts_11 f0_trouble_12 f0_troubled_13 f0_happened_14 f0_commitCount_15 f0_first_16 f0_waiting_17 f0_sent_18 f0_lostCount_19 am101_22 am102_25 am103_28 am104_31 am105_34 am106_37 am107_40 am108_43 am109_46 am1010_49 am1011_52 am1012_55 am1013_58 am1014_61 am1015_64 am1016_67 h
      refine zb_let_k h (zb_addP rfl (rfl : (1 : Int32) = nI 1)) ?_
      intro h
      exact ih rfl h
noncomputable def zq_pX_rollBack (kk : Nat → Nat → Nat → Nat → Nat → Nat → Nat → Nat → Nat → Nat → Nat → Nat → Nat → Nat → Nat → Nat → Nat → Nat → Nat → Nat → Nat → Nat → Nat → Nat → Nat → Nat → Nat → Nat → Nat → Nat → Nat → Nat → Bool) (f0_openSet f0_state f0_votes f0_heard f0_names f0_name f0_slot f0_parts f0_trouble f0_troubled f0_happened f0_commitCount f0_first f0_waiting f0_sent f0_lostCount a1 a2 a3 a4 a5 a6 a7 a8 a9 a10 a11 a12 a13 a14 a15 a16 p0 : Nat) : Bool := (zq_X_rollBack_2 kk p0 70 0 f0_openSet f0_state f0_votes f0_heard f0_names f0_name f0_slot f0_parts f0_trouble f0_troubled f0_happened f0_commitCount f0_first f0_waiting f0_sent f0_lostCount a1 a2 a3 a4 a5 a6 a7 a8 a9 a10 a11 a12 a13 a14 a15 a16)
theorem zr_pX_rollBack {c : Nat} (hc : c ≤ 1023) {post : St2 → Prop} {kk : Nat → Nat → Nat → Nat → Nat → Nat → Nat → Nat → Nat → Nat → Nat → Nat → Nat → Nat → Nat → Nat → Nat → Nat → Nat → Nat → Nat → Nat → Nat → Nat → Nat → Nat → Nat → Nat → Nat → Nat → Nat → Nat → Bool} {f0_openSet f0_state f0_votes f0_heard f0_names f0_name f0_slot f0_parts f0_trouble f0_troubled f0_happened f0_commitCount f0_first f0_waiting f0_sent f0_lostCount a1 a2 a3 a4 a5 a6 a7 a8 a9 a10 a11 a12 a13 a14 a15 a16 p0 : Nat} {X_p0 : Int32} (e_p0 : X_p0 = nI p0) (h : zq_pX_rollBack kk f0_openSet f0_state f0_votes f0_heard f0_names f0_name f0_slot f0_parts f0_trouble f0_troubled f0_happened f0_commitCount f0_first f0_waiting f0_sent f0_lostCount a1 a2 a3 a4 a5 a6 a7 a8 a9 a10 a11 a12 a13 a14 a15 a16 p0 = true) (hk : ∀ {f1 f2 f3 f4 f5 f6 f7 f8 f9 f10 f11 f12 f13 f14 f15 f16 b1 b2 b3 b4 b5 b6 b7 b8 b9 b10 b11 b12 b13 b14 b15 b16 : Nat}, kk f1 f2 f3 f4 f5 f6 f7 f8 f9 f10 f11 f12 f13 f14 f15 f16 b1 b2 b3 b4 b5 b6 b7 b8 b9 b10 b11 b12 b13 b14 b15 b16 = true → post ((nI f1), (nI f2), (nI f3), (nI f4), (nI f5), (nI f6), (nI f7), (nI f8), (nI f9), (nI f10), (nI f11), (nI f12), (nI f13), (nI f14), (nI f15), (nI f16), (zb_va c b1), (zb_ka b2), (zb_ka b3), (zb_ka b4), (zb_ka b5), (zb_va c b6), (zb_va c b7), (zb_ka b8), (zb_ka b9), (zb_va c b10), (zb_ka b11), (zb_ka b12), (zb_ka b13), (zb_ka b14), (zb_ka b15), (zb_ka b16))) : wpX_rollBack post ((nI f0_openSet), (nI f0_state), (nI f0_votes), (nI f0_heard), (nI f0_names), (nI f0_name), (nI f0_slot), (nI f0_parts), (nI f0_trouble), (nI f0_troubled), (nI f0_happened), (nI f0_commitCount), (nI f0_first), (nI f0_waiting), (nI f0_sent), (nI f0_lostCount), (zb_va c a1), (zb_ka a2), (zb_ka a3), (zb_ka a4), (zb_ka a5), (zb_va c a6), (zb_va c a7), (zb_ka a8), (zb_ka a9), (zb_va c a10), (zb_ka a11), (zb_ka a12), (zb_ka a13), (zb_ka a14), (zb_ka a15), (zb_ka a16)) X_p0 := by
  subst e_p0
  unfold zq_pX_rollBack at h
  unfold wpX_rollBack
  refine ⟨70, ?_⟩
  exact zr_X_rollBack_2 hc hk rfl _ (rfl : (0 : Int32) = nI 0) h
noncomputable def zq_X_breakDown_64 (kk : Nat → Nat → Nat → Nat → Nat → Nat → Nat → Nat → Nat → Nat → Nat → Nat → Nat → Nat → Nat → Nat → Nat → Nat → Nat → Nat → Nat → Nat → Nat → Nat → Nat → Nat → Nat → Nat → Nat → Nat → Nat → Nat → Nat → Bool) (kJ : Nat → Nat → Nat → Nat → Nat → Nat → Nat → Nat → Nat → Nat → Nat → Nat → Nat → Nat → Nat → Nat → Nat → Nat → Nat → Nat → Nat → Nat → Nat → Nat → Nat → Nat → Nat → Nat → Nat → Nat → Nat → Nat → Nat → Nat → Bool) (x1 x2 x3 x4 f0_openSet f0_state f0_votes f0_heard f0_names f0_name f0_slot f0_parts f0_trouble f0_troubled f0_happened f0_commitCount f0_first f0_waiting f0_sent f0_lostCount am301 am302 am303 am304 am305 am306 am307 am308 am309 am3010 am3011 am3012 am3013 am3014 am3015 am3016 : Nat) : Bool := (zq_pX_rollBack (fun f0_openSet_137 f0_state_138 f0_votes_139 f0_heard_140 f0_names_141 f0_name_142 f0_slot_143 f0_parts_144 f0_trouble_145 f0_troubled_146 f0_happened_147 f0_commitCount_148 f0_first_149 f0_waiting_150 f0_sent_151 f0_lostCount_152 am671_155 am672_158 am673_161 am674_164 am675_167 am676_170 am677_173 am678_176 am679_179 am6710_182 am6711_185 am6712_188 am6713_191 am6714_194 am6715_197 am6716_200 => (zb_let (Nat.add x3 1) (fun x3_201 => (zb_let (Nat.add x4 1) (fun x4_202 => (kJ x3_201 x4_202 f0_openSet_137 f0_state_138 f0_votes_139 f0_heard_140 f0_names_141 f0_name_142 f0_slot_143 f0_parts_144 f0_trouble_145 f0_troubled_146 f0_happened_147 f0_commitCount_148 f0_first_149 f0_waiting_150 f0_sent_151 f0_lostCount_152 am671_155 am672_158 am673_161 am674_164 am675_167 am676_170 am677_173 am678_176 am679_179 am6710_182 am6711_185 am6712_188 am6713_191 am6714_194 am6715_197 am6716_200)))))) f0_openSet f0_state f0_votes f0_heard f0_names f0_name f0_slot f0_parts f0_trouble f0_troubled f0_happened f0_commitCount f0_first f0_waiting f0_sent f0_lostCount am301 am302 am303 am304 am305 am306 am307 am308 am309 am3010 am3011 am3012 am3013 am3014 am3015 am3016 x4)
theorem zr_X_breakDown_64 {c : Nat} (hc : c ≤ 1023) {post : Int32 → St2 → Prop} {kk : Nat → Nat → Nat → Nat → Nat → Nat → Nat → Nat → Nat → Nat → Nat → Nat → Nat → Nat → Nat → Nat → Nat → Nat → Nat → Nat → Nat → Nat → Nat → Nat → Nat → Nat → Nat → Nat → Nat → Nat → Nat → Nat → Nat → Bool} {J : Int32 → Int32 → Int32 → Int32 → Int32 → Int32 → Int32 → Int32 → Int32 → Int32 → Int32 → Int32 → Int32 → Int32 → Int32 → Int32 → Int32 → Int32 → (Nat → Int32) → (Nat → Int32) → (Nat → Int32) → (Nat → Int32) → (Nat → Int32) → (Nat → Int32) → (Nat → Int32) → (Nat → Int32) → (Nat → Int32) → (Nat → Int32) → (Nat → Int32) → (Nat → Int32) → (Nat → Int32) → (Nat → Int32) → (Nat → Int32) → (Nat → Int32) → Prop} {kJ : Nat → Nat → Nat → Nat → Nat → Nat → Nat → Nat → Nat → Nat → Nat → Nat → Nat → Nat → Nat → Nat → Nat → Nat → Nat → Nat → Nat → Nat → Nat → Nat → Nat → Nat → Nat → Nat → Nat → Nat → Nat → Nat → Nat → Nat → Bool} {x1 x2 x3 x4 f0_openSet f0_state f0_votes f0_heard f0_names f0_name f0_slot f0_parts f0_trouble f0_troubled f0_happened f0_commitCount f0_first f0_waiting f0_sent f0_lostCount am301 am302 am303 am304 am305 am306 am307 am308 am309 am3010 am3011 am3012 am3013 am3014 am3015 am3016 : Nat} {X_x1 : Int32} (e_x1 : X_x1 = nI x1) {X_x2 : Int32} (e_x2 : X_x2 = nI x2) {X_x3 : Int32} (e_x3 : X_x3 = nI x3) {X_x4 : Int32} (e_x4 : X_x4 = nI x4) (h : zq_X_breakDown_64 kk kJ x1 x2 x3 x4 f0_openSet f0_state f0_votes f0_heard f0_names f0_name f0_slot f0_parts f0_trouble f0_troubled f0_happened f0_commitCount f0_first f0_waiting f0_sent f0_lostCount am301 am302 am303 am304 am305 am306 am307 am308 am309 am3010 am3011 am3012 am3013 am3014 am3015 am3016 = true) (hJ : ∀ {x3_ x4_ f0_openSet_ f0_state_ f0_votes_ f0_heard_ f0_names_ f0_name_ f0_slot_ f0_parts_ f0_trouble_ f0_troubled_ f0_happened_ f0_commitCount_ f0_first_ f0_waiting_ f0_sent_ f0_lostCount_ a1_ a2_ a3_ a4_ a5_ a6_ a7_ a8_ a9_ a10_ a11_ a12_ a13_ a14_ a15_ a16_ : Nat}, kJ x3_ x4_ f0_openSet_ f0_state_ f0_votes_ f0_heard_ f0_names_ f0_name_ f0_slot_ f0_parts_ f0_trouble_ f0_troubled_ f0_happened_ f0_commitCount_ f0_first_ f0_waiting_ f0_sent_ f0_lostCount_ a1_ a2_ a3_ a4_ a5_ a6_ a7_ a8_ a9_ a10_ a11_ a12_ a13_ a14_ a15_ a16_ = true → J (nI x3_) (nI x4_) (nI f0_openSet_) (nI f0_state_) (nI f0_votes_) (nI f0_heard_) (nI f0_names_) (nI f0_name_) (nI f0_slot_) (nI f0_parts_) (nI f0_trouble_) (nI f0_troubled_) (nI f0_happened_) (nI f0_commitCount_) (nI f0_first_) (nI f0_waiting_) (nI f0_sent_) (nI f0_lostCount_) (zb_va c a1_) (zb_ka a2_) (zb_ka a3_) (zb_ka a4_) (zb_ka a5_) (zb_va c a6_) (zb_va c a7_) (zb_ka a8_) (zb_ka a9_) (zb_va c a10_) (zb_ka a11_) (zb_ka a12_) (zb_ka a13_) (zb_ka a14_) (zb_ka a15_) (zb_ka a16_)) (hk : ∀ {r_ : Nat} {R_ : Int32}, R_ = nI r_ → ∀ {f1 f2 f3 f4 f5 f6 f7 f8 f9 f10 f11 f12 f13 f14 f15 f16 b1 b2 b3 b4 b5 b6 b7 b8 b9 b10 b11 b12 b13 b14 b15 b16 : Nat}, kk r_ f1 f2 f3 f4 f5 f6 f7 f8 f9 f10 f11 f12 f13 f14 f15 f16 b1 b2 b3 b4 b5 b6 b7 b8 b9 b10 b11 b12 b13 b14 b15 b16 = true → post R_ ((nI f1), (nI f2), (nI f3), (nI f4), (nI f5), (nI f6), (nI f7), (nI f8), (nI f9), (nI f10), (nI f11), (nI f12), (nI f13), (nI f14), (nI f15), (nI f16), (zb_va c b1), (zb_ka b2), (zb_ka b3), (zb_ka b4), (zb_ka b5), (zb_va c b6), (zb_va c b7), (zb_ka b8), (zb_ka b9), (zb_va c b10), (zb_ka b11), (zb_ka b12), (zb_ka b13), (zb_ka b14), (zb_ka b15), (zb_ka b16))) : wX_breakDown_64 post J X_x1 X_x2 X_x3 X_x4 (nI f0_openSet) (nI f0_state) (nI f0_votes) (nI f0_heard) (nI f0_names) (nI f0_name) (nI f0_slot) (nI f0_parts) (nI f0_trouble) (nI f0_troubled) (nI f0_happened) (nI f0_commitCount) (nI f0_first) (nI f0_waiting) (nI f0_sent) (nI f0_lostCount) (zb_va c am301) (zb_ka am302) (zb_ka am303) (zb_ka am304) (zb_ka am305) (zb_va c am306) (zb_va c am307) (zb_ka am308) (zb_ka am309) (zb_va c am3010) (zb_ka am3011) (zb_ka am3012) (zb_ka am3013) (zb_ka am3014) (zb_ka am3015) (zb_ka am3016) := by
  subst e_x1
  subst e_x2
  subst e_x3
  subst e_x4
  unfold zq_X_breakDown_64 at h
  unfold wX_breakDown_64
  refine zr_pX_rollBack hc rfl h ?_
  intro f0_openSet_137 f0_state_138 f0_votes_139 f0_heard_140 f0_names_141 f0_name_142 f0_slot_143 f0_parts_144 f0_trouble_145 f0_troubled_146 f0_happened_147 f0_commitCount_148 f0_first_149 f0_waiting_150 f0_sent_151 f0_lostCount_152 am671_155 am672_158 am673_161 am674_164 am675_167 am676_170 am677_173 am678_176 am679_179 am6710_182 am6711_185 am6712_188 am6713_191 am6714_194 am6715_197 am6716_200 h
  refine zb_let_k h (zb_addP rfl (rfl : (1 : Int32) = nI 1)) ?_
  intro h
  refine zb_let_k h (zb_addP rfl (rfl : (1 : Int32) = nI 1)) ?_
  intro h
  exact hJ h
noncomputable def zq_X_breakDown_11 (kk : Nat → Nat → Nat → Nat → Nat → Nat → Nat → Nat → Nat → Nat → Nat → Nat → Nat → Nat → Nat → Nat → Nat → Nat → Nat → Nat → Nat → Nat → Nat → Nat → Nat → Nat → Nat → Nat → Nat → Nat → Nat → Nat → Nat → Bool) (x1 x2 : Nat) : Nat → Nat → Nat → Nat → Nat → Nat → Nat → Nat → Nat → Nat → Nat → Nat → Nat → Nat → Nat → Nat → Nat → Nat → Nat → Nat → Nat → Nat → Nat → Nat → Nat → Nat → Nat → Nat → Nat → Nat → Nat → Nat → Nat → Nat → Nat → Bool
  | 0 => fun _ _ _ _ _ _ _ _ _ _ _ _ _ _ _ _ _ _ _ _ _ _ _ _ _ _ _ _ _ _ _ _ _ _ => false
  | n + 1 => fun x3 x4 f0_openSet f0_state f0_votes f0_heard f0_names f0_name f0_slot f0_parts f0_trouble f0_troubled f0_happened f0_commitCount f0_first f0_waiting f0_sent f0_lostCount a1 a2 a3 a4 a5 a6 a7 a8 a9 a10 a11 a12 a13 a14 a15 a16 => (zb_if (zb_le 4 x4) (zq_pX_comeBack (fun f0_openSet_4 f0_state_5 f0_votes_6 f0_heard_7 f0_names_8 f0_name_9 f0_slot_10 f0_parts_11 f0_trouble_12 f0_troubled_13 f0_happened_14 f0_commitCount_15 f0_first_16 f0_waiting_17 f0_sent_18 f0_lostCount_19 am811_22 am812_25 am813_28 am814_31 am815_34 am816_37 am817_40 am818_43 am819_46 am8110_49 am8111_52 am8112_55 am8113_58 am8114_61 am8115_64 am8116_67 => (kk x3 f0_openSet_4 f0_state_5 f0_votes_6 f0_heard_7 f0_names_8 f0_name_9 f0_slot_10 f0_parts_11 f0_trouble_12 f0_troubled_13 f0_happened_14 f0_commitCount_15 f0_first_16 f0_waiting_17 f0_sent_18 f0_lostCount_19 am811_22 am812_25 am813_28 am814_31 am815_34 am816_37 am817_40 am818_43 am819_46 am8110_49 am8111_52 am8112_55 am8113_58 am8114_61 am8115_64 am8116_67)) f0_openSet f0_state f0_votes f0_heard f0_names f0_name f0_slot f0_parts f0_trouble f0_troubled f0_happened f0_commitCount f0_first f0_waiting f0_sent f0_lostCount a1 a2 a3 a4 a5 a6 a7 a8 a9 a10 a11 a12 a13 a14 a15 a16 x1) (zb_if (zb_eq (zb_bit x2 x4) 0) (zb_let (Nat.add x4 1) (fun x4_69 => (zq_X_breakDown_11 kk x1 x2 n x3 x4_69 f0_openSet f0_state f0_votes f0_heard f0_names f0_name f0_slot f0_parts f0_trouble f0_troubled f0_happened f0_commitCount f0_first f0_waiting f0_sent f0_lostCount a1 a2 a3 a4 a5 a6 a7 a8 a9 a10 a11 a12 a13 a14 a15 a16))) (zq_pX_releaseOn (fun f0_openSet_71 f0_state_72 f0_votes_73 f0_heard_74 f0_names_75 f0_name_76 f0_slot_77 f0_parts_78 f0_trouble_79 f0_troubled_80 f0_happened_81 f0_commitCount_82 f0_first_83 f0_waiting_84 f0_sent_85 f0_lostCount_86 am301_89 am302_92 am303_95 am304_98 am305_101 am306_104 am307_107 am308_110 am309_113 am3010_116 am3011_119 am3012_122 am3013_125 am3014_128 am3015_131 am3016_134 => (zb_if (zb_eq f0_state_72 0) (zq_X_breakDown_64 kk (zq_X_breakDown_11 kk x1 x2 n) x1 x2 x3 x4 f0_openSet_71 f0_state_72 f0_votes_73 f0_heard_74 f0_names_75 f0_name_76 f0_slot_77 f0_parts_78 f0_trouble_79 f0_troubled_80 f0_happened_81 f0_commitCount_82 f0_first_83 f0_waiting_84 f0_sent_85 f0_lostCount_86 am301_89 am302_92 am303_95 am304_98 am305_101 am306_104 am307_107 am308_110 am309_113 am3010_116 am3011_119 am3012_122 am3013_125 am3014_128 am3015_131 am3016_134) (zb_if (zb_eq x4 f0_slot_77) (zb_in (Nat.add (Nat.mul x4 3) x1) 12 (zb_let (zb_wr am3012_122 (zb_cl (Nat.add (Nat.mul x4 3) x1)) 1) (fun am3012_205 => (zb_let (Nat.add x4 1) (fun x4_206 => (zq_X_breakDown_11 kk x1 x2 n x3 x4_206 f0_openSet_71 f0_state_72 f0_votes_73 f0_heard_74 f0_names_75 f0_name_76 f0_slot_77 f0_parts_78 f0_trouble_79 f0_troubled_80 f0_happened_81 f0_commitCount_82 f0_first_83 f0_waiting_84 f0_sent_85 f0_lostCount_86 am301_89 am302_92 am303_95 am304_98 am305_101 am306_104 am307_107 am308_110 am309_113 am3010_116 am3011_119 am3012_205 am3013_125 am3014_128 am3015_131 am3016_134)))))) (zq_X_breakDown_64 kk (zq_X_breakDown_11 kk x1 x2 n) x1 x2 x3 x4 f0_openSet_71 f0_state_72 f0_votes_73 f0_heard_74 f0_names_75 f0_name_76 f0_slot_77 f0_parts_78 f0_trouble_79 f0_troubled_80 f0_happened_81 f0_commitCount_82 f0_first_83 f0_waiting_84 f0_sent_85 f0_lostCount_86 am301_89 am302_92 am303_95 am304_98 am305_101 am306_104 am307_107 am308_110 am309_113 am3010_116 am3011_119 am3012_122 am3013_125 am3014_128 am3015_131 am3016_134)))) f0_openSet f0_state f0_votes f0_heard f0_names f0_name f0_slot f0_parts f0_trouble f0_troubled f0_happened f0_commitCount f0_first f0_waiting f0_sent f0_lostCount a1 a2 a3 a4 a5 a6 a7 a8 a9 a10 a11 a12 a13 a14 a15 a16 x4 x1)))
theorem zr_X_breakDown_11 {c : Nat} (hc : c ≤ 1023) {post : Int32 → St2 → Prop} {kk : Nat → Nat → Nat → Nat → Nat → Nat → Nat → Nat → Nat → Nat → Nat → Nat → Nat → Nat → Nat → Nat → Nat → Nat → Nat → Nat → Nat → Nat → Nat → Nat → Nat → Nat → Nat → Nat → Nat → Nat → Nat → Nat → Nat → Bool} (hk : ∀ {r_ : Nat} {R_ : Int32}, R_ = nI r_ → ∀ {f1 f2 f3 f4 f5 f6 f7 f8 f9 f10 f11 f12 f13 f14 f15 f16 b1 b2 b3 b4 b5 b6 b7 b8 b9 b10 b11 b12 b13 b14 b15 b16 : Nat}, kk r_ f1 f2 f3 f4 f5 f6 f7 f8 f9 f10 f11 f12 f13 f14 f15 f16 b1 b2 b3 b4 b5 b6 b7 b8 b9 b10 b11 b12 b13 b14 b15 b16 = true → post R_ ((nI f1), (nI f2), (nI f3), (nI f4), (nI f5), (nI f6), (nI f7), (nI f8), (nI f9), (nI f10), (nI f11), (nI f12), (nI f13), (nI f14), (nI f15), (nI f16), (zb_va c b1), (zb_ka b2), (zb_ka b3), (zb_ka b4), (zb_ka b5), (zb_va c b6), (zb_va c b7), (zb_ka b8), (zb_ka b9), (zb_va c b10), (zb_ka b11), (zb_ka b12), (zb_ka b13), (zb_ka b14), (zb_ka b15), (zb_ka b16))) {x1 x2 : Nat} {X_x1 : Int32} (e_x1 : X_x1 = nI x1) {X_x2 : Int32} (e_x2 : X_x2 = nI x2) : ∀ (n : Nat) {x3 x4 f0_openSet f0_state f0_votes f0_heard f0_names f0_name f0_slot f0_parts f0_trouble f0_troubled f0_happened f0_commitCount f0_first f0_waiting f0_sent f0_lostCount a1 a2 a3 a4 a5 a6 a7 a8 a9 a10 a11 a12 a13 a14 a15 a16 : Nat} {X_x3 X_x4 : Int32}, X_x3 = nI x3 → X_x4 = nI x4 → zq_X_breakDown_11 kk x1 x2 n x3 x4 f0_openSet f0_state f0_votes f0_heard f0_names f0_name f0_slot f0_parts f0_trouble f0_troubled f0_happened f0_commitCount f0_first f0_waiting f0_sent f0_lostCount a1 a2 a3 a4 a5 a6 a7 a8 a9 a10 a11 a12 a13 a14 a15 a16 = true → wX_breakDown_11 post X_x1 X_x2 n X_x3 X_x4 (nI f0_openSet) (nI f0_state) (nI f0_votes) (nI f0_heard) (nI f0_names) (nI f0_name) (nI f0_slot) (nI f0_parts) (nI f0_trouble) (nI f0_troubled) (nI f0_happened) (nI f0_commitCount) (nI f0_first) (nI f0_waiting) (nI f0_sent) (nI f0_lostCount) (zb_va c a1) (zb_ka a2) (zb_ka a3) (zb_ka a4) (zb_ka a5) (zb_va c a6) (zb_va c a7) (zb_ka a8) (zb_ka a9) (zb_va c a10) (zb_ka a11) (zb_ka a12) (zb_ka a13) (zb_ka a14) (zb_ka a15) (zb_ka a16) := by
  subst e_x1
  subst e_x2
  intro n
  induction n with
  | zero =>
    intro x3 x4 f0_openSet f0_state f0_votes f0_heard f0_names f0_name f0_slot f0_parts f0_trouble f0_troubled f0_happened f0_commitCount f0_first f0_waiting f0_sent f0_lostCount a1 a2 a3 a4 a5 a6 a7 a8 a9 a10 a11 a12 a13 a14 a15 a16 X_x3 X_x4 e_x3 e_x4 h
    exact absurd (show false = true from h) Bool.false_ne_true
  | succ n ih =>
    intro x3 x4 f0_openSet f0_state f0_votes f0_heard f0_names f0_name f0_slot f0_parts f0_trouble f0_troubled f0_happened f0_commitCount f0_first f0_waiting f0_sent f0_lostCount a1 a2 a3 a4 a5 a6 a7 a8 a9 a10 a11 a12 a13 a14 a15 a16 X_x3 X_x4 e_x3 e_x4 h
    subst e_x3
    subst e_x4
    refine zb_if_ok (zb_leP (rfl : (4 : Int32) = nI 4) rfl) h ?_ ?_
    · intro h
      refine zr_pX_comeBack hc rfl h ?_
      intro f0_openSet_4 f0_state_5 f0_votes_6 f0_heard_7 f0_names_8 f0_name_9 f0_slot_10 f0_parts_11 f0_trouble_12 f0_troubled_13 f0_happened_14 f0_commitCount_15 f0_first_16 f0_waiting_17 f0_sent_18 f0_lostCount_19 am811_22 am812_25 am813_28 am814_31 am815_34 am816_37 am817_40 am818_43 am819_46 am8110_49 am8111_52 am8112_55 am8113_58 am8114_61 am8115_64 am8116_67 h
      exact hk rfl h
    · intro h
      refine zb_if_ok (zb_eqP (zb_bitP rfl rfl) (rfl : (0 : Int32) = nI 0)) h ?_ ?_
      · intro h
        refine zb_let_k h (zb_addP rfl (rfl : (1 : Int32) = nI 1)) ?_
        intro h
        exact ih rfl rfl h
      · intro h
        refine zr_pX_releaseOn hc rfl rfl h ?_
        intro f0_openSet_71 f0_state_72 f0_votes_73 f0_heard_74 f0_names_75 f0_name_76 f0_slot_77 f0_parts_78 f0_trouble_79 f0_troubled_80 f0_happened_81 f0_commitCount_82 f0_first_83 f0_waiting_84 f0_sent_85 f0_lostCount_86 am301_89 am302_92 am303_95 am304_98 am305_101 am306_104 am307_107 am308_110 am309_113 am3010_116 am3011_119 am3012_122 am3013_125 am3014_128 am3015_131 am3016_134 h
        refine zb_if_ok (zb_eqP rfl (rfl : (0 : Int32) = nI 0)) h ?_ ?_
        · intro h
          exact zr_X_breakDown_64 hc rfl rfl rfl rfl h (fun h => ih rfl rfl h) hk
        · intro h
          refine zb_if_ok (zb_eqP rfl rfl) h ?_ ?_
          · intro h
            refine zb_in_ok (zb_addP (zb_mulP rfl (rfl : (3 : Int32) = nI 3)) rfl) (by decide) h ?_
            intro h
            refine zb_let_ka h (zb_upK (zb_addP (zb_mulP rfl (rfl : (3 : Int32) = nI 3)) rfl) (rfl : (1 : Int32) = nI 1)) ?_
            intro h
            refine zb_let_k h (zb_addP rfl (rfl : (1 : Int32) = nI 1)) ?_
            intro h
            exact ih rfl rfl h
          · intro h
            exact zr_X_breakDown_64 hc rfl rfl rfl rfl h (fun h => ih rfl rfl h) hk
noncomputable def zq_pX_breakDown (kk : Nat → Nat → Nat → Nat → Nat → Nat → Nat → Nat → Nat → Nat → Nat → Nat → Nat → Nat → Nat → Nat → Nat → Nat → Nat → Nat → Nat → Nat → Nat → Nat → Nat → Nat → Nat → Nat → Nat → Nat → Nat → Nat → Nat → Bool) (f0_openSet f0_state f0_votes f0_heard f0_names f0_name f0_slot f0_parts f0_trouble f0_troubled f0_happened f0_commitCount f0_first f0_waiting f0_sent f0_lostCount a1 a2 a3 a4 a5 a6 a7 a8 a9 a10 a11 a12 a13 a14 a15 a16 p0 : Nat) : Bool := (zq_pX_holdersOn (fun r_1 => (zq_X_breakDown_11 kk p0 r_1 70 0 0 f0_openSet f0_state f0_votes f0_heard f0_names f0_name f0_slot f0_parts f0_trouble f0_troubled f0_happened f0_commitCount f0_first f0_waiting f0_sent f0_lostCount a1 a2 a3 a4 a5 a6 a7 a8 a9 a10 a11 a12 a13 a14 a15 a16)) f0_openSet f0_state f0_votes f0_heard f0_names f0_name f0_slot f0_parts f0_trouble f0_troubled f0_happened f0_commitCount f0_first f0_waiting f0_sent f0_lostCount a1 a2 a3 a4 a5 a6 a7 a8 a9 a10 a11 a12 a13 a14 a15 a16 p0)
theorem zr_pX_breakDown {c : Nat} (hc : c ≤ 1023) {post : Int32 → St2 → Prop} {kk : Nat → Nat → Nat → Nat → Nat → Nat → Nat → Nat → Nat → Nat → Nat → Nat → Nat → Nat → Nat → Nat → Nat → Nat → Nat → Nat → Nat → Nat → Nat → Nat → Nat → Nat → Nat → Nat → Nat → Nat → Nat → Nat → Nat → Bool} {f0_openSet f0_state f0_votes f0_heard f0_names f0_name f0_slot f0_parts f0_trouble f0_troubled f0_happened f0_commitCount f0_first f0_waiting f0_sent f0_lostCount a1 a2 a3 a4 a5 a6 a7 a8 a9 a10 a11 a12 a13 a14 a15 a16 p0 : Nat} {X_p0 : Int32} (e_p0 : X_p0 = nI p0) (h : zq_pX_breakDown kk f0_openSet f0_state f0_votes f0_heard f0_names f0_name f0_slot f0_parts f0_trouble f0_troubled f0_happened f0_commitCount f0_first f0_waiting f0_sent f0_lostCount a1 a2 a3 a4 a5 a6 a7 a8 a9 a10 a11 a12 a13 a14 a15 a16 p0 = true) (hk : ∀ {r_ : Nat} {R_ : Int32}, R_ = nI r_ → ∀ {f1 f2 f3 f4 f5 f6 f7 f8 f9 f10 f11 f12 f13 f14 f15 f16 b1 b2 b3 b4 b5 b6 b7 b8 b9 b10 b11 b12 b13 b14 b15 b16 : Nat}, kk r_ f1 f2 f3 f4 f5 f6 f7 f8 f9 f10 f11 f12 f13 f14 f15 f16 b1 b2 b3 b4 b5 b6 b7 b8 b9 b10 b11 b12 b13 b14 b15 b16 = true → post R_ ((nI f1), (nI f2), (nI f3), (nI f4), (nI f5), (nI f6), (nI f7), (nI f8), (nI f9), (nI f10), (nI f11), (nI f12), (nI f13), (nI f14), (nI f15), (nI f16), (zb_va c b1), (zb_ka b2), (zb_ka b3), (zb_ka b4), (zb_ka b5), (zb_va c b6), (zb_va c b7), (zb_ka b8), (zb_ka b9), (zb_va c b10), (zb_ka b11), (zb_ka b12), (zb_ka b13), (zb_ka b14), (zb_ka b15), (zb_ka b16))) : wpX_breakDown post ((nI f0_openSet), (nI f0_state), (nI f0_votes), (nI f0_heard), (nI f0_names), (nI f0_name), (nI f0_slot), (nI f0_parts), (nI f0_trouble), (nI f0_troubled), (nI f0_happened), (nI f0_commitCount), (nI f0_first), (nI f0_waiting), (nI f0_sent), (nI f0_lostCount), (zb_va c a1), (zb_ka a2), (zb_ka a3), (zb_ka a4), (zb_ka a5), (zb_va c a6), (zb_va c a7), (zb_ka a8), (zb_ka a9), (zb_va c a10), (zb_ka a11), (zb_ka a12), (zb_ka a13), (zb_ka a14), (zb_ka a15), (zb_ka a16)) X_p0 := by
  subst e_p0
  unfold zq_pX_breakDown at h
  unfold wpX_breakDown
  refine zr_pX_holdersOn hc rfl h ?_
  intro r_1 R_ eR_ h
  subst eR_
  refine ⟨70, ?_⟩
  exact zr_X_breakDown_11 hc hk rfl rfl _ (rfl : (0 : Int32) = nI 0) (rfl : (0 : Int32) = nI 0) h
noncomputable def zq_X_isLogged_6 (kk : Nat → Bool) (x1 x2 x3 f0_openSet f0_state f0_votes f0_heard f0_names f0_name f0_slot f0_parts f0_trouble f0_troubled f0_happened f0_commitCount f0_first f0_waiting f0_sent f0_lostCount a1 a2 a3 a4 a5 a6 a7 a8 a9 a10 a11 a12 a13 a14 a15 a16 : Nat) : Nat → Nat → Bool
  | 0 => fun _ => false
  | n + 1 => fun x4 => (zb_in x1 4 (zb_if (zb_le (Nat.add (Nat.mul x1 64) (zb_rd a2 x1)) x4) (kk 0) (zb_in x4 256 (zb_if (zb_eq (zb_rd a3 x4) x2) (zb_in x4 256 (zb_if (zb_eq (zb_rd a4 x4) x3) (kk 1) (zb_let (Nat.add x4 1) (fun x4_9 => (zq_X_isLogged_6 kk x1 x2 x3 f0_openSet f0_state f0_votes f0_heard f0_names f0_name f0_slot f0_parts f0_trouble f0_troubled f0_happened f0_commitCount f0_first f0_waiting f0_sent f0_lostCount a1 a2 a3 a4 a5 a6 a7 a8 a9 a10 a11 a12 a13 a14 a15 a16 n x4_9))))) (zb_let (Nat.add x4 1) (fun x4_6 => (zq_X_isLogged_6 kk x1 x2 x3 f0_openSet f0_state f0_votes f0_heard f0_names f0_name f0_slot f0_parts f0_trouble f0_troubled f0_happened f0_commitCount f0_first f0_waiting f0_sent f0_lostCount a1 a2 a3 a4 a5 a6 a7 a8 a9 a10 a11 a12 a13 a14 a15 a16 n x4_6)))))))
theorem zr_X_isLogged_6 {c : Nat} (hc : c ≤ 1023) {post : Int32 → Prop} {kk : Nat → Bool} (hk : ∀ {r_ : Nat} {R_ : Int32}, R_ = nI r_ → kk r_  = true → post R_ ) {x1 x2 x3 f0_openSet f0_state f0_votes f0_heard f0_names f0_name f0_slot f0_parts f0_trouble f0_troubled f0_happened f0_commitCount f0_first f0_waiting f0_sent f0_lostCount a1 a2 a3 a4 a5 a6 a7 a8 a9 a10 a11 a12 a13 a14 a15 a16 : Nat} {X_x1 : Int32} (e_x1 : X_x1 = nI x1) {X_x2 : Int32} (e_x2 : X_x2 = nI x2) {X_x3 : Int32} (e_x3 : X_x3 = nI x3) : ∀ (n : Nat) {x4 : Nat} {X_x4 : Int32}, X_x4 = nI x4 → zq_X_isLogged_6 kk x1 x2 x3 f0_openSet f0_state f0_votes f0_heard f0_names f0_name f0_slot f0_parts f0_trouble f0_troubled f0_happened f0_commitCount f0_first f0_waiting f0_sent f0_lostCount a1 a2 a3 a4 a5 a6 a7 a8 a9 a10 a11 a12 a13 a14 a15 a16 n x4 = true → wX_isLogged_6 post X_x1 X_x2 X_x3 (nI f0_openSet) (nI f0_state) (nI f0_votes) (nI f0_heard) (nI f0_names) (nI f0_name) (nI f0_slot) (nI f0_parts) (nI f0_trouble) (nI f0_troubled) (nI f0_happened) (nI f0_commitCount) (nI f0_first) (nI f0_waiting) (nI f0_sent) (nI f0_lostCount) (zb_va c a1) (zb_ka a2) (zb_ka a3) (zb_ka a4) (zb_ka a5) (zb_va c a6) (zb_va c a7) (zb_ka a8) (zb_ka a9) (zb_va c a10) (zb_ka a11) (zb_ka a12) (zb_ka a13) (zb_ka a14) (zb_ka a15) (zb_ka a16) n X_x4 := by
  subst e_x1
  subst e_x2
  subst e_x3
  intro n
  induction n with
  | zero =>
    intro x4 X_x4 e_x4 h
    exact absurd (show false = true from h) Bool.false_ne_true
  | succ n ih =>
    intro x4 X_x4 e_x4 h
    subst e_x4
    refine zb_in_ok rfl (by decide) h ?_
    intro h
    refine zb_if_ok (zb_leP (zb_addP (zb_mulP rfl (rfl : (64 : Int32) = nI 64)) (zb_rdK rfl)) rfl) h ?_ ?_
    · intro h
      exact hk (rfl : (0 : Int32) = nI 0) h
    · intro h
      refine zb_in_ok rfl (by decide) h ?_
      intro h
      refine zb_if_ok (zb_eqP (zb_rdK rfl) rfl) h ?_ ?_
      · intro h
        refine zb_in_ok rfl (by decide) h ?_
        intro h
        refine zb_if_ok (zb_eqP (zb_rdK rfl) rfl) h ?_ ?_
        · intro h
          exact hk (rfl : (1 : Int32) = nI 1) h
        · intro h
          refine zb_let_k h (zb_addP rfl (rfl : (1 : Int32) = nI 1)) ?_
          intro h
          exact ih rfl h
      · intro h
        refine zb_let_k h (zb_addP rfl (rfl : (1 : Int32) = nI 1)) ?_
        intro h
        exact ih rfl h
noncomputable def zq_pX_isLogged (kk : Nat → Bool) (f0_openSet f0_state f0_votes f0_heard f0_names f0_name f0_slot f0_parts f0_trouble f0_troubled f0_happened f0_commitCount f0_first f0_waiting f0_sent f0_lostCount a1 a2 a3 a4 a5 a6 a7 a8 a9 a10 a11 a12 a13 a14 a15 a16 p0 p1 p2 : Nat) : Bool := (zb_let (Nat.mul p0 64) (fun x4_1 => (zq_X_isLogged_6 kk p0 p1 p2 f0_openSet f0_state f0_votes f0_heard f0_names f0_name f0_slot f0_parts f0_trouble f0_troubled f0_happened f0_commitCount f0_first f0_waiting f0_sent f0_lostCount a1 a2 a3 a4 a5 a6 a7 a8 a9 a10 a11 a12 a13 a14 a15 a16 70 x4_1)))
theorem zr_pX_isLogged {c : Nat} (hc : c ≤ 1023) {post : Int32 → Prop} {kk : Nat → Bool} {f0_openSet f0_state f0_votes f0_heard f0_names f0_name f0_slot f0_parts f0_trouble f0_troubled f0_happened f0_commitCount f0_first f0_waiting f0_sent f0_lostCount a1 a2 a3 a4 a5 a6 a7 a8 a9 a10 a11 a12 a13 a14 a15 a16 p0 p1 p2 : Nat} {X_p0 : Int32} (e_p0 : X_p0 = nI p0) {X_p1 : Int32} (e_p1 : X_p1 = nI p1) {X_p2 : Int32} (e_p2 : X_p2 = nI p2) (h : zq_pX_isLogged kk f0_openSet f0_state f0_votes f0_heard f0_names f0_name f0_slot f0_parts f0_trouble f0_troubled f0_happened f0_commitCount f0_first f0_waiting f0_sent f0_lostCount a1 a2 a3 a4 a5 a6 a7 a8 a9 a10 a11 a12 a13 a14 a15 a16 p0 p1 p2 = true) (hk : ∀ {r_ : Nat} {R_ : Int32}, R_ = nI r_ → kk r_  = true → post R_ ) : wpX_isLogged post ((nI f0_openSet), (nI f0_state), (nI f0_votes), (nI f0_heard), (nI f0_names), (nI f0_name), (nI f0_slot), (nI f0_parts), (nI f0_trouble), (nI f0_troubled), (nI f0_happened), (nI f0_commitCount), (nI f0_first), (nI f0_waiting), (nI f0_sent), (nI f0_lostCount), (zb_va c a1), (zb_ka a2), (zb_ka a3), (zb_ka a4), (zb_ka a5), (zb_va c a6), (zb_va c a7), (zb_ka a8), (zb_ka a9), (zb_va c a10), (zb_ka a11), (zb_ka a12), (zb_ka a13), (zb_ka a14), (zb_ka a15), (zb_ka a16)) X_p0 X_p1 X_p2 := by
  subst e_p0
  subst e_p1
  subst e_p2
  unfold zq_pX_isLogged at h
  unfold wpX_isLogged
  refine zb_let_k h (zb_mulP rfl (rfl : (64 : Int32) = nI 64)) ?_
  intro h
  refine ⟨70, ?_⟩
  exact zr_X_isLogged_6 hc hk rfl rfl rfl _ rfl h
noncomputable def zq_X_breakLeader_32 (kk : Nat → Nat → Nat → Nat → Nat → Nat → Nat → Nat → Nat → Nat → Nat → Nat → Nat → Nat → Nat → Nat → Nat → Nat → Nat → Nat → Nat → Nat → Nat → Nat → Nat → Nat → Nat → Nat → Nat → Nat → Nat → Nat → Nat → Bool) (kJ : Nat → Nat → Nat → Nat → Nat → Nat → Nat → Nat → Nat → Nat → Nat → Nat → Nat → Nat → Nat → Nat → Nat → Nat → Nat → Nat → Nat → Nat → Nat → Nat → Nat → Nat → Nat → Nat → Nat → Nat → Nat → Nat → Nat → Nat → Bool) (x1 x2 f0_openSet f0_state f0_votes f0_heard f0_names f0_name f0_slot f0_parts f0_trouble f0_troubled f0_happened f0_commitCount f0_first f0_waiting f0_sent f0_lostCount a1 a2 a3 a4 a5 a6 a7 a8 a9 a10 a11 a12 a13 a14 a15 a16 : Nat) : Bool := (zq_pX_rollBack (fun f0_openSet_10 f0_state_11 f0_votes_12 f0_heard_13 f0_names_14 f0_name_15 f0_slot_16 f0_parts_17 f0_trouble_18 f0_troubled_19 f0_happened_20 f0_commitCount_21 f0_first_22 f0_waiting_23 f0_sent_24 f0_lostCount_25 am341_28 am342_31 am343_34 am344_37 am345_40 am346_43 am347_46 am348_49 am349_52 am3410_55 am3411_58 am3412_61 am3413_64 am3414_67 am3415_70 am3416_73 => (zb_let (Nat.add x1 1) (fun x1_74 => (zb_let (Nat.add x2 1) (fun x2_75 => (kJ x1_74 x2_75 f0_openSet_10 f0_state_11 f0_votes_12 f0_heard_13 f0_names_14 f0_name_15 f0_slot_16 f0_parts_17 f0_trouble_18 f0_troubled_19 f0_happened_20 f0_commitCount_21 f0_first_22 f0_waiting_23 f0_sent_24 f0_lostCount_25 am341_28 am342_31 am343_34 am344_37 am345_40 am346_43 am347_46 am348_49 am349_52 am3410_55 am3411_58 am3412_61 am3413_64 am3414_67 am3415_70 am3416_73)))))) f0_openSet f0_state f0_votes f0_heard f0_names f0_name f0_slot f0_parts f0_trouble f0_troubled f0_happened f0_commitCount f0_first f0_waiting f0_sent f0_lostCount a1 a2 a3 a4 a5 a6 a7 a8 a9 a10 a11 a12 a13 a14 a15 a16 x2)
theorem zr_X_breakLeader_32 {c : Nat} (hc : c ≤ 1023) {post : Int32 → St2 → Prop} {kk : Nat → Nat → Nat → Nat → Nat → Nat → Nat → Nat → Nat → Nat → Nat → Nat → Nat → Nat → Nat → Nat → Nat → Nat → Nat → Nat → Nat → Nat → Nat → Nat → Nat → Nat → Nat → Nat → Nat → Nat → Nat → Nat → Nat → Bool} {J : Int32 → Int32 → Int32 → Int32 → Int32 → Int32 → Int32 → Int32 → Int32 → Int32 → Int32 → Int32 → Int32 → Int32 → Int32 → Int32 → Int32 → Int32 → (Nat → Int32) → (Nat → Int32) → (Nat → Int32) → (Nat → Int32) → (Nat → Int32) → (Nat → Int32) → (Nat → Int32) → (Nat → Int32) → (Nat → Int32) → (Nat → Int32) → (Nat → Int32) → (Nat → Int32) → (Nat → Int32) → (Nat → Int32) → (Nat → Int32) → (Nat → Int32) → Prop} {kJ : Nat → Nat → Nat → Nat → Nat → Nat → Nat → Nat → Nat → Nat → Nat → Nat → Nat → Nat → Nat → Nat → Nat → Nat → Nat → Nat → Nat → Nat → Nat → Nat → Nat → Nat → Nat → Nat → Nat → Nat → Nat → Nat → Nat → Nat → Bool} {x1 x2 f0_openSet f0_state f0_votes f0_heard f0_names f0_name f0_slot f0_parts f0_trouble f0_troubled f0_happened f0_commitCount f0_first f0_waiting f0_sent f0_lostCount a1 a2 a3 a4 a5 a6 a7 a8 a9 a10 a11 a12 a13 a14 a15 a16 : Nat} {X_x1 : Int32} (e_x1 : X_x1 = nI x1) {X_x2 : Int32} (e_x2 : X_x2 = nI x2) (h : zq_X_breakLeader_32 kk kJ x1 x2 f0_openSet f0_state f0_votes f0_heard f0_names f0_name f0_slot f0_parts f0_trouble f0_troubled f0_happened f0_commitCount f0_first f0_waiting f0_sent f0_lostCount a1 a2 a3 a4 a5 a6 a7 a8 a9 a10 a11 a12 a13 a14 a15 a16 = true) (hJ : ∀ {x1_ x2_ f0_openSet_ f0_state_ f0_votes_ f0_heard_ f0_names_ f0_name_ f0_slot_ f0_parts_ f0_trouble_ f0_troubled_ f0_happened_ f0_commitCount_ f0_first_ f0_waiting_ f0_sent_ f0_lostCount_ a1_ a2_ a3_ a4_ a5_ a6_ a7_ a8_ a9_ a10_ a11_ a12_ a13_ a14_ a15_ a16_ : Nat}, kJ x1_ x2_ f0_openSet_ f0_state_ f0_votes_ f0_heard_ f0_names_ f0_name_ f0_slot_ f0_parts_ f0_trouble_ f0_troubled_ f0_happened_ f0_commitCount_ f0_first_ f0_waiting_ f0_sent_ f0_lostCount_ a1_ a2_ a3_ a4_ a5_ a6_ a7_ a8_ a9_ a10_ a11_ a12_ a13_ a14_ a15_ a16_ = true → J (nI x1_) (nI x2_) (nI f0_openSet_) (nI f0_state_) (nI f0_votes_) (nI f0_heard_) (nI f0_names_) (nI f0_name_) (nI f0_slot_) (nI f0_parts_) (nI f0_trouble_) (nI f0_troubled_) (nI f0_happened_) (nI f0_commitCount_) (nI f0_first_) (nI f0_waiting_) (nI f0_sent_) (nI f0_lostCount_) (zb_va c a1_) (zb_ka a2_) (zb_ka a3_) (zb_ka a4_) (zb_ka a5_) (zb_va c a6_) (zb_va c a7_) (zb_ka a8_) (zb_ka a9_) (zb_va c a10_) (zb_ka a11_) (zb_ka a12_) (zb_ka a13_) (zb_ka a14_) (zb_ka a15_) (zb_ka a16_)) (hk : ∀ {r_ : Nat} {R_ : Int32}, R_ = nI r_ → ∀ {f1 f2 f3 f4 f5 f6 f7 f8 f9 f10 f11 f12 f13 f14 f15 f16 b1 b2 b3 b4 b5 b6 b7 b8 b9 b10 b11 b12 b13 b14 b15 b16 : Nat}, kk r_ f1 f2 f3 f4 f5 f6 f7 f8 f9 f10 f11 f12 f13 f14 f15 f16 b1 b2 b3 b4 b5 b6 b7 b8 b9 b10 b11 b12 b13 b14 b15 b16 = true → post R_ ((nI f1), (nI f2), (nI f3), (nI f4), (nI f5), (nI f6), (nI f7), (nI f8), (nI f9), (nI f10), (nI f11), (nI f12), (nI f13), (nI f14), (nI f15), (nI f16), (zb_va c b1), (zb_ka b2), (zb_ka b3), (zb_ka b4), (zb_ka b5), (zb_va c b6), (zb_va c b7), (zb_ka b8), (zb_ka b9), (zb_va c b10), (zb_ka b11), (zb_ka b12), (zb_ka b13), (zb_ka b14), (zb_ka b15), (zb_ka b16))) : wX_breakLeader_32 post J X_x1 X_x2 (nI f0_openSet) (nI f0_state) (nI f0_votes) (nI f0_heard) (nI f0_names) (nI f0_name) (nI f0_slot) (nI f0_parts) (nI f0_trouble) (nI f0_troubled) (nI f0_happened) (nI f0_commitCount) (nI f0_first) (nI f0_waiting) (nI f0_sent) (nI f0_lostCount) (zb_va c a1) (zb_ka a2) (zb_ka a3) (zb_ka a4) (zb_ka a5) (zb_va c a6) (zb_va c a7) (zb_ka a8) (zb_ka a9) (zb_va c a10) (zb_ka a11) (zb_ka a12) (zb_ka a13) (zb_ka a14) (zb_ka a15) (zb_ka a16) := by
  subst e_x1
  subst e_x2
  unfold zq_X_breakLeader_32 at h
  unfold wX_breakLeader_32
  refine zr_pX_rollBack hc rfl h ?_
  intro f0_openSet_10 f0_state_11 f0_votes_12 f0_heard_13 f0_names_14 f0_name_15 f0_slot_16 f0_parts_17 f0_trouble_18 f0_troubled_19 f0_happened_20 f0_commitCount_21 f0_first_22 f0_waiting_23 f0_sent_24 f0_lostCount_25 am341_28 am342_31 am343_34 am344_37 am345_40 am346_43 am347_46 am348_49 am349_52 am3410_55 am3411_58 am3412_61 am3413_64 am3414_67 am3415_70 am3416_73 h
  refine zb_let_k h (zb_addP rfl (rfl : (1 : Int32) = nI 1)) ?_
  intro h
  refine zb_let_k h (zb_addP rfl (rfl : (1 : Int32) = nI 1)) ?_
  intro h
  exact hJ h
noncomputable def zq_X_breakLeader_4 (kk : Nat → Nat → Nat → Nat → Nat → Nat → Nat → Nat → Nat → Nat → Nat → Nat → Nat → Nat → Nat → Nat → Nat → Nat → Nat → Nat → Nat → Nat → Nat → Nat → Nat → Nat → Nat → Nat → Nat → Nat → Nat → Nat → Nat → Bool) : Nat → Nat → Nat → Nat → Nat → Nat → Nat → Nat → Nat → Nat → Nat → Nat → Nat → Nat → Nat → Nat → Nat → Nat → Nat → Nat → Nat → Nat → Nat → Nat → Nat → Nat → Nat → Nat → Nat → Nat → Nat → Nat → Nat → Nat → Nat → Bool
  | 0 => fun _ _ _ _ _ _ _ _ _ _ _ _ _ _ _ _ _ _ _ _ _ _ _ _ _ _ _ _ _ _ _ _ _ _ => false
  | n + 1 => fun x1 x2 f0_openSet f0_state f0_votes f0_heard f0_names f0_name f0_slot f0_parts f0_trouble f0_troubled f0_happened f0_commitCount f0_first f0_waiting f0_sent f0_lostCount a1 a2 a3 a4 a5 a6 a7 a8 a9 a10 a11 a12 a13 a14 a15 a16 => (zb_if (zb_le 4 x2) (zb_if (zb_eq f0_state 0) (kk x1 f0_openSet f0_state f0_votes f0_heard f0_names f0_name f0_slot f0_parts f0_trouble f0_troubled f0_happened f0_commitCount f0_first f0_waiting f0_sent f0_lostCount a1 a2 a3 a4 a5 a6 a7 a8 a9 a10 a11 a12 a13 a14 a15 a16) (zq_pX_isLogged (fun r_3 => (zb_if (zb_eq r_3 0) (kk x1 f0_openSet 3 0 0 f0_names f0_name f0_slot f0_parts f0_trouble f0_troubled f0_happened f0_commitCount f0_first f0_waiting f0_sent f0_lostCount a1 a2 a3 a4 a5 a6 a7 a8 a9 a10 a11 a12 a13 a14 a15 a16) (kk x1 f0_openSet 2 0 0 f0_names f0_name f0_slot f0_parts f0_trouble f0_troubled f0_happened f0_commitCount f0_first f0_waiting f0_sent f0_lostCount a1 a2 a3 a4 a5 a6 a7 a8 a9 a10 a11 a12 a13 a14 a15 a16))) f0_openSet f0_state 0 0 f0_names f0_name f0_slot f0_parts f0_trouble f0_troubled f0_happened f0_commitCount f0_first f0_waiting f0_sent f0_lostCount a1 a2 a3 a4 a5 a6 a7 a8 a9 a10 a11 a12 a13 a14 a15 a16 3 5 f0_name)) (zq_pX_isOpen (fun r_5 => (zb_if (zb_eq r_5 0) (zb_let (Nat.add x2 1) (fun x2_7 => (zq_X_breakLeader_4 kk n x1 x2_7 f0_openSet f0_state f0_votes f0_heard f0_names f0_name f0_slot f0_parts f0_trouble f0_troubled f0_happened f0_commitCount f0_first f0_waiting f0_sent f0_lostCount a1 a2 a3 a4 a5 a6 a7 a8 a9 a10 a11 a12 a13 a14 a15 a16))) (zb_if (zb_eq f0_state 0) (zq_X_breakLeader_32 kk (zq_X_breakLeader_4 kk n) x1 x2 f0_openSet f0_state f0_votes f0_heard f0_names f0_name f0_slot f0_parts f0_trouble f0_troubled f0_happened f0_commitCount f0_first f0_waiting f0_sent f0_lostCount a1 a2 a3 a4 a5 a6 a7 a8 a9 a10 a11 a12 a13 a14 a15 a16) (zb_if (zb_eq x2 f0_slot) (zb_let (Nat.add x2 1) (fun x2_77 => (zq_X_breakLeader_4 kk n x1 x2_77 f0_openSet f0_state f0_votes f0_heard f0_names f0_name f0_slot f0_parts f0_trouble f0_troubled f0_happened f0_commitCount f0_first f0_waiting f0_sent f0_lostCount a1 a2 a3 a4 a5 a6 a7 a8 a9 a10 a11 a12 a13 a14 a15 a16))) (zq_X_breakLeader_32 kk (zq_X_breakLeader_4 kk n) x1 x2 f0_openSet f0_state f0_votes f0_heard f0_names f0_name f0_slot f0_parts f0_trouble f0_troubled f0_happened f0_commitCount f0_first f0_waiting f0_sent f0_lostCount a1 a2 a3 a4 a5 a6 a7 a8 a9 a10 a11 a12 a13 a14 a15 a16))))) f0_openSet f0_state f0_votes f0_heard f0_names f0_name f0_slot f0_parts f0_trouble f0_troubled f0_happened f0_commitCount f0_first f0_waiting f0_sent f0_lostCount a1 a2 a3 a4 a5 a6 a7 a8 a9 a10 a11 a12 a13 a14 a15 a16 x2))
theorem zr_X_breakLeader_4 {c : Nat} (hc : c ≤ 1023) {post : Int32 → St2 → Prop} {kk : Nat → Nat → Nat → Nat → Nat → Nat → Nat → Nat → Nat → Nat → Nat → Nat → Nat → Nat → Nat → Nat → Nat → Nat → Nat → Nat → Nat → Nat → Nat → Nat → Nat → Nat → Nat → Nat → Nat → Nat → Nat → Nat → Nat → Bool} (hk : ∀ {r_ : Nat} {R_ : Int32}, R_ = nI r_ → ∀ {f1 f2 f3 f4 f5 f6 f7 f8 f9 f10 f11 f12 f13 f14 f15 f16 b1 b2 b3 b4 b5 b6 b7 b8 b9 b10 b11 b12 b13 b14 b15 b16 : Nat}, kk r_ f1 f2 f3 f4 f5 f6 f7 f8 f9 f10 f11 f12 f13 f14 f15 f16 b1 b2 b3 b4 b5 b6 b7 b8 b9 b10 b11 b12 b13 b14 b15 b16 = true → post R_ ((nI f1), (nI f2), (nI f3), (nI f4), (nI f5), (nI f6), (nI f7), (nI f8), (nI f9), (nI f10), (nI f11), (nI f12), (nI f13), (nI f14), (nI f15), (nI f16), (zb_va c b1), (zb_ka b2), (zb_ka b3), (zb_ka b4), (zb_ka b5), (zb_va c b6), (zb_va c b7), (zb_ka b8), (zb_ka b9), (zb_va c b10), (zb_ka b11), (zb_ka b12), (zb_ka b13), (zb_ka b14), (zb_ka b15), (zb_ka b16))) : ∀ (n : Nat) {x1 x2 f0_openSet f0_state f0_votes f0_heard f0_names f0_name f0_slot f0_parts f0_trouble f0_troubled f0_happened f0_commitCount f0_first f0_waiting f0_sent f0_lostCount a1 a2 a3 a4 a5 a6 a7 a8 a9 a10 a11 a12 a13 a14 a15 a16 : Nat} {X_x1 X_x2 : Int32}, X_x1 = nI x1 → X_x2 = nI x2 → zq_X_breakLeader_4 kk n x1 x2 f0_openSet f0_state f0_votes f0_heard f0_names f0_name f0_slot f0_parts f0_trouble f0_troubled f0_happened f0_commitCount f0_first f0_waiting f0_sent f0_lostCount a1 a2 a3 a4 a5 a6 a7 a8 a9 a10 a11 a12 a13 a14 a15 a16 = true → wX_breakLeader_4 post n X_x1 X_x2 (nI f0_openSet) (nI f0_state) (nI f0_votes) (nI f0_heard) (nI f0_names) (nI f0_name) (nI f0_slot) (nI f0_parts) (nI f0_trouble) (nI f0_troubled) (nI f0_happened) (nI f0_commitCount) (nI f0_first) (nI f0_waiting) (nI f0_sent) (nI f0_lostCount) (zb_va c a1) (zb_ka a2) (zb_ka a3) (zb_ka a4) (zb_ka a5) (zb_va c a6) (zb_va c a7) (zb_ka a8) (zb_ka a9) (zb_va c a10) (zb_ka a11) (zb_ka a12) (zb_ka a13) (zb_ka a14) (zb_ka a15) (zb_ka a16) := by
  intro n
  induction n with
  | zero =>
    intro x1 x2 f0_openSet f0_state f0_votes f0_heard f0_names f0_name f0_slot f0_parts f0_trouble f0_troubled f0_happened f0_commitCount f0_first f0_waiting f0_sent f0_lostCount a1 a2 a3 a4 a5 a6 a7 a8 a9 a10 a11 a12 a13 a14 a15 a16 X_x1 X_x2 e_x1 e_x2 h
    exact absurd (show false = true from h) Bool.false_ne_true
  | succ n ih =>
    intro x1 x2 f0_openSet f0_state f0_votes f0_heard f0_names f0_name f0_slot f0_parts f0_trouble f0_troubled f0_happened f0_commitCount f0_first f0_waiting f0_sent f0_lostCount a1 a2 a3 a4 a5 a6 a7 a8 a9 a10 a11 a12 a13 a14 a15 a16 X_x1 X_x2 e_x1 e_x2 h
    subst e_x1
    subst e_x2
    refine zb_if_ok (zb_leP (rfl : (4 : Int32) = nI 4) rfl) h ?_ ?_
    · intro h
      refine zb_if_ok (zb_eqP rfl (rfl : (0 : Int32) = nI 0)) h ?_ ?_
      · intro h
        exact hk rfl h
      · intro h
        refine zr_pX_isLogged hc (rfl : (3 : Int32) = nI 3) (rfl : (5 : Int32) = nI 5) rfl h ?_
        intro r_3 R_ eR_ h
        subst eR_
        refine zb_if_ok (zb_eqP rfl (rfl : (0 : Int32) = nI 0)) h ?_ ?_
        · intro h
          exact hk rfl h
        · intro h
          exact hk rfl h
    · intro h
      refine zr_pX_isOpen hc rfl h ?_
      intro r_5 R_ eR_ h
      subst eR_
      refine zb_if_ok (zb_eqP rfl (rfl : (0 : Int32) = nI 0)) h ?_ ?_
      · intro h
        refine zb_let_k h (zb_addP rfl (rfl : (1 : Int32) = nI 1)) ?_
        intro h
        exact ih rfl rfl h
      · intro h
        refine zb_if_ok (zb_eqP rfl (rfl : (0 : Int32) = nI 0)) h ?_ ?_
        · intro h
          exact zr_X_breakLeader_32 hc rfl rfl h (fun h => ih rfl rfl h) hk
        · intro h
          refine zb_if_ok (zb_eqP rfl rfl) h ?_ ?_
          · intro h
            refine zb_let_k h (zb_addP rfl (rfl : (1 : Int32) = nI 1)) ?_
            intro h
            exact ih rfl rfl h
          · intro h
            exact zr_X_breakLeader_32 hc rfl rfl h (fun h => ih rfl rfl h) hk
noncomputable def zq_pX_breakLeader (kk : Nat → Nat → Nat → Nat → Nat → Nat → Nat → Nat → Nat → Nat → Nat → Nat → Nat → Nat → Nat → Nat → Nat → Nat → Nat → Nat → Nat → Nat → Nat → Nat → Nat → Nat → Nat → Nat → Nat → Nat → Nat → Nat → Nat → Bool) (f0_openSet f0_state f0_votes f0_heard f0_names f0_name f0_slot f0_parts f0_trouble f0_troubled f0_happened f0_commitCount f0_first f0_waiting f0_sent f0_lostCount a1 a2 a3 a4 a5 a6 a7 a8 a9 a10 a11 a12 a13 a14 a15 a16 : Nat) : Bool := (zq_X_breakLeader_4 kk 70 0 0 f0_openSet f0_state f0_votes f0_heard f0_names f0_name f0_slot f0_parts f0_trouble f0_troubled f0_happened f0_commitCount f0_first f0_waiting f0_sent f0_lostCount a1 a2 a3 a4 a5 a6 a7 a8 a9 a10 a11 a12 a13 a14 a15 a16)
theorem zr_pX_breakLeader {c : Nat} (hc : c ≤ 1023) {post : Int32 → St2 → Prop} {kk : Nat → Nat → Nat → Nat → Nat → Nat → Nat → Nat → Nat → Nat → Nat → Nat → Nat → Nat → Nat → Nat → Nat → Nat → Nat → Nat → Nat → Nat → Nat → Nat → Nat → Nat → Nat → Nat → Nat → Nat → Nat → Nat → Nat → Bool} {f0_openSet f0_state f0_votes f0_heard f0_names f0_name f0_slot f0_parts f0_trouble f0_troubled f0_happened f0_commitCount f0_first f0_waiting f0_sent f0_lostCount a1 a2 a3 a4 a5 a6 a7 a8 a9 a10 a11 a12 a13 a14 a15 a16 : Nat} (h : zq_pX_breakLeader kk f0_openSet f0_state f0_votes f0_heard f0_names f0_name f0_slot f0_parts f0_trouble f0_troubled f0_happened f0_commitCount f0_first f0_waiting f0_sent f0_lostCount a1 a2 a3 a4 a5 a6 a7 a8 a9 a10 a11 a12 a13 a14 a15 a16 = true) (hk : ∀ {r_ : Nat} {R_ : Int32}, R_ = nI r_ → ∀ {f1 f2 f3 f4 f5 f6 f7 f8 f9 f10 f11 f12 f13 f14 f15 f16 b1 b2 b3 b4 b5 b6 b7 b8 b9 b10 b11 b12 b13 b14 b15 b16 : Nat}, kk r_ f1 f2 f3 f4 f5 f6 f7 f8 f9 f10 f11 f12 f13 f14 f15 f16 b1 b2 b3 b4 b5 b6 b7 b8 b9 b10 b11 b12 b13 b14 b15 b16 = true → post R_ ((nI f1), (nI f2), (nI f3), (nI f4), (nI f5), (nI f6), (nI f7), (nI f8), (nI f9), (nI f10), (nI f11), (nI f12), (nI f13), (nI f14), (nI f15), (nI f16), (zb_va c b1), (zb_ka b2), (zb_ka b3), (zb_ka b4), (zb_ka b5), (zb_va c b6), (zb_va c b7), (zb_ka b8), (zb_ka b9), (zb_va c b10), (zb_ka b11), (zb_ka b12), (zb_ka b13), (zb_ka b14), (zb_ka b15), (zb_ka b16))) : wpX_breakLeader post ((nI f0_openSet), (nI f0_state), (nI f0_votes), (nI f0_heard), (nI f0_names), (nI f0_name), (nI f0_slot), (nI f0_parts), (nI f0_trouble), (nI f0_troubled), (nI f0_happened), (nI f0_commitCount), (nI f0_first), (nI f0_waiting), (nI f0_sent), (nI f0_lostCount), (zb_va c a1), (zb_ka a2), (zb_ka a3), (zb_ka a4), (zb_ka a5), (zb_va c a6), (zb_va c a7), (zb_ka a8), (zb_ka a9), (zb_va c a10), (zb_ka a11), (zb_ka a12), (zb_ka a13), (zb_ka a14), (zb_ka a15), (zb_ka a16)) := by
  unfold zq_pX_breakLeader at h
  unfold wpX_breakLeader
  refine ⟨70, ?_⟩
  exact zr_X_breakLeader_4 hc hk _ (rfl : (0 : Int32) = nI 0) (rfl : (0 : Int32) = nI 0) h
end
section
noncomputable def zq_X_decideIfReady_125 (kk : Nat → Nat → Nat → Nat → Nat → Nat → Nat → Nat → Nat → Nat → Nat → Nat → Nat → Nat → Nat → Nat → Nat → Nat → Nat → Nat → Nat → Nat → Nat → Nat → Nat → Nat → Nat → Nat → Nat → Nat → Nat → Nat → Bool) (f0_openSet f0_state f0_votes f0_heard f0_names f0_name f0_slot f0_parts f0_trouble f0_troubled f0_happened f0_commitCount f0_first f0_waiting f0_sent f0_lostCount am531 am532 am533 am534 am535 am536 am537 am538 am539 am5310 am5311 am5312 am5313 am5314 am5315 am5316 : Nat) : Bool := (zq_pX_remind (fun f0_openSet_203 f0_state_204 f0_votes_205 f0_heard_206 f0_names_207 f0_name_208 f0_slot_209 f0_parts_210 f0_trouble_211 f0_troubled_212 f0_happened_213 f0_commitCount_214 f0_first_215 f0_waiting_216 f0_sent_217 f0_lostCount_218 am1261_221 am1262_224 am1263_227 am1264_230 am1265_233 am1266_236 am1267_239 am1268_242 am1269_245 am12610_248 am12611_251 am12612_254 am12613_257 am12614_260 am12615_263 am12616_266 => (kk f0_openSet_203 f0_state_204 f0_votes_205 f0_heard_206 f0_names_207 f0_name_208 f0_slot_209 f0_parts_210 f0_trouble_211 f0_troubled_212 f0_happened_213 f0_commitCount_214 f0_first_215 f0_waiting_216 f0_sent_217 f0_lostCount_218 am1261_221 am1262_224 am1263_227 am1264_230 am1265_233 am1266_236 am1267_239 am1268_242 am1269_245 am12610_248 am12611_251 am12612_254 am12613_257 am12614_260 am12615_263 am12616_266)) f0_openSet f0_state f0_votes f0_heard f0_names f0_name f0_slot f0_parts f0_trouble f0_troubled f0_happened f0_commitCount f0_first f0_waiting f0_sent f0_lostCount am531 am532 am533 am534 am535 am536 am537 am538 am539 am5310 am5311 am5312 am5313 am5314 am5315 am5316)
theorem zr_X_decideIfReady_125 {c : Nat} (hc : c ≤ 1023) {post : St2 → Prop} {kk : Nat → Nat → Nat → Nat → Nat → Nat → Nat → Nat → Nat → Nat → Nat → Nat → Nat → Nat → Nat → Nat → Nat → Nat → Nat → Nat → Nat → Nat → Nat → Nat → Nat → Nat → Nat → Nat → Nat → Nat → Nat → Nat → Bool} {f0_openSet f0_state f0_votes f0_heard f0_names f0_name f0_slot f0_parts f0_trouble f0_troubled f0_happened f0_commitCount f0_first f0_waiting f0_sent f0_lostCount am531 am532 am533 am534 am535 am536 am537 am538 am539 am5310 am5311 am5312 am5313 am5314 am5315 am5316 : Nat} (h : zq_X_decideIfReady_125 kk f0_openSet f0_state f0_votes f0_heard f0_names f0_name f0_slot f0_parts f0_trouble f0_troubled f0_happened f0_commitCount f0_first f0_waiting f0_sent f0_lostCount am531 am532 am533 am534 am535 am536 am537 am538 am539 am5310 am5311 am5312 am5313 am5314 am5315 am5316 = true) (hk : ∀ {f1 f2 f3 f4 f5 f6 f7 f8 f9 f10 f11 f12 f13 f14 f15 f16 b1 b2 b3 b4 b5 b6 b7 b8 b9 b10 b11 b12 b13 b14 b15 b16 : Nat}, kk f1 f2 f3 f4 f5 f6 f7 f8 f9 f10 f11 f12 f13 f14 f15 f16 b1 b2 b3 b4 b5 b6 b7 b8 b9 b10 b11 b12 b13 b14 b15 b16 = true → post ((nI f1), (nI f2), (nI f3), (nI f4), (nI f5), (nI f6), (nI f7), (nI f8), (nI f9), (nI f10), (nI f11), (nI f12), (nI f13), (nI f14), (nI f15), (nI f16), (zb_va c b1), (zb_ka b2), (zb_ka b3), (zb_ka b4), (zb_ka b5), (zb_va c b6), (zb_va c b7), (zb_ka b8), (zb_ka b9), (zb_va c b10), (zb_ka b11), (zb_ka b12), (zb_ka b13), (zb_ka b14), (zb_ka b15), (zb_ka b16))) : wX_decideIfReady_125 post (nI f0_openSet) (nI f0_state) (nI f0_votes) (nI f0_heard) (nI f0_names) (nI f0_name) (nI f0_slot) (nI f0_parts) (nI f0_trouble) (nI f0_troubled) (nI f0_happened) (nI f0_commitCount) (nI f0_first) (nI f0_waiting) (nI f0_sent) (nI f0_lostCount) (zb_va c am531) (zb_ka am532) (zb_ka am533) (zb_ka am534) (zb_ka am535) (zb_va c am536) (zb_va c am537) (zb_ka am538) (zb_ka am539) (zb_va c am5310) (zb_ka am5311) (zb_ka am5312) (zb_ka am5313) (zb_ka am5314) (zb_ka am5315) (zb_ka am5316) := by
  unfold zq_X_decideIfReady_125 at h
  unfold wX_decideIfReady_125
  refine zr_pX_remind hc h ?_
  intro f0_openSet_203 f0_state_204 f0_votes_205 f0_heard_206 f0_names_207 f0_name_208 f0_slot_209 f0_parts_210 f0_trouble_211 f0_troubled_212 f0_happened_213 f0_commitCount_214 f0_first_215 f0_waiting_216 f0_sent_217 f0_lostCount_218 am1261_221 am1262_224 am1263_227 am1264_230 am1265_233 am1266_236 am1267_239 am1268_242 am1269_245 am12610_248 am12611_251 am12612_254 am12613_257 am12614_260 am12615_263 am12616_266 h
  exact hk h
noncomputable def zq_X_decideIfReady_96 (kk : Nat → Nat → Nat → Nat → Nat → Nat → Nat → Nat → Nat → Nat → Nat → Nat → Nat → Nat → Nat → Nat → Nat → Nat → Nat → Nat → Nat → Nat → Nat → Nat → Nat → Nat → Nat → Nat → Nat → Nat → Nat → Nat → Bool) (z0 f0_openSet f0_state f0_votes f0_heard f0_names f0_name f0_slot f0_parts f0_trouble f0_troubled f0_happened f0_commitCount f0_first f0_waiting f0_sent f0_lostCount am531 am532 am533 am534 am535 am536 am537 am538 am539 am5310 am5311 am5312 am5313 am5314 am5315 am5316 : Nat) : Bool := (zb_if (zb_eq z0 0) (zq_X_decideIfReady_125 kk f0_openSet f0_state f0_votes f0_heard f0_names f0_name f0_slot f0_parts f0_trouble f0_troubled f0_happened f0_commitCount f0_first f0_waiting f0_sent f0_lostCount am531 am532 am533 am534 am535 am536 am537 am538 am539 am5310 am5311 am5312 am5313 am5314 am5315 am5316) (zq_pX_strikes (fun r_267 f0_openSet_268 f0_state_269 f0_votes_270 f0_heard_271 f0_names_272 f0_name_273 f0_slot_274 f0_parts_275 f0_trouble_276 f0_troubled_277 f0_happened_278 f0_commitCount_279 f0_first_280 f0_waiting_281 f0_sent_282 f0_lostCount_283 am1101_286 am1102_289 am1103_292 am1104_295 am1105_298 am1106_301 am1107_304 am1108_307 am1109_310 am11010_313 am11011_316 am11012_319 am11013_322 am11014_325 am11015_328 am11016_331 => (zb_if (zb_eq r_267 0) (zq_X_decideIfReady_125 kk f0_openSet_268 f0_state_269 f0_votes_270 f0_heard_271 f0_names_272 f0_name_273 f0_slot_274 f0_parts_275 f0_trouble_276 f0_troubled_277 f0_happened_278 f0_commitCount_279 f0_first_280 f0_waiting_281 f0_sent_282 f0_lostCount_283 am1101_286 am1102_289 am1103_292 am1104_295 am1105_298 am1106_301 am1107_304 am1108_307 am1109_310 am11010_313 am11011_316 am11012_319 am11013_322 am11014_325 am11015_328 am11016_331) (zq_pX_breakDown (fun r_333 f0_openSet_334 f0_state_335 f0_votes_336 f0_heard_337 f0_names_338 f0_name_339 f0_slot_340 f0_parts_341 f0_trouble_342 f0_troubled_343 f0_happened_344 f0_commitCount_345 f0_first_346 f0_waiting_347 f0_sent_348 f0_lostCount_349 am1211_352 am1212_355 am1213_358 am1214_361 am1215_364 am1216_367 am1217_370 am1218_373 am1219_376 am12110_379 am12111_382 am12112_385 am12113_388 am12114_391 am12115_394 am12116_397 => (zq_X_decideIfReady_125 kk f0_openSet_334 f0_state_335 f0_votes_336 f0_heard_337 f0_names_338 f0_name_339 f0_slot_340 f0_parts_341 f0_trouble_342 f0_troubled_343 f0_happened_344 f0_commitCount_345 f0_first_346 f0_waiting_347 f0_sent_348 f0_lostCount_349 am1211_352 am1212_355 am1213_358 am1214_361 am1215_364 am1216_367 am1217_370 am1218_373 am1219_376 am12110_379 am12111_382 am12112_385 am12113_388 am12114_391 am12115_394 am12116_397)) f0_openSet_268 f0_state_269 f0_votes_270 f0_heard_271 f0_names_272 f0_name_273 f0_slot_274 f0_parts_275 f0_trouble_276 f0_troubled_277 f0_happened_278 f0_commitCount_279 f0_first_280 f0_waiting_281 f0_sent_282 f0_lostCount_283 am1101_286 am1102_289 am1103_292 am1104_295 am1105_298 am1106_301 am1107_304 am1108_307 am1109_310 am11010_313 am11011_316 am11012_319 am11013_322 am11014_325 am11015_328 am11016_331 f0_troubled_277))) f0_openSet f0_state f0_votes f0_heard f0_names f0_name f0_slot f0_parts f0_trouble f0_troubled f0_happened f0_commitCount f0_first f0_waiting f0_sent f0_lostCount am531 am532 am533 am534 am535 am536 am537 am538 am539 am5310 am5311 am5312 am5313 am5314 am5315 am5316 f0_trouble f0_troubled))
theorem zr_X_decideIfReady_96 {c : Nat} (hc : c ≤ 1023) {post : St2 → Prop} {kk : Nat → Nat → Nat → Nat → Nat → Nat → Nat → Nat → Nat → Nat → Nat → Nat → Nat → Nat → Nat → Nat → Nat → Nat → Nat → Nat → Nat → Nat → Nat → Nat → Nat → Nat → Nat → Nat → Nat → Nat → Nat → Nat → Bool} {z0 f0_openSet f0_state f0_votes f0_heard f0_names f0_name f0_slot f0_parts f0_trouble f0_troubled f0_happened f0_commitCount f0_first f0_waiting f0_sent f0_lostCount am531 am532 am533 am534 am535 am536 am537 am538 am539 am5310 am5311 am5312 am5313 am5314 am5315 am5316 : Nat} {X_z0 : Int32} (e_z0 : X_z0 = nI z0) (h : zq_X_decideIfReady_96 kk z0 f0_openSet f0_state f0_votes f0_heard f0_names f0_name f0_slot f0_parts f0_trouble f0_troubled f0_happened f0_commitCount f0_first f0_waiting f0_sent f0_lostCount am531 am532 am533 am534 am535 am536 am537 am538 am539 am5310 am5311 am5312 am5313 am5314 am5315 am5316 = true) (hk : ∀ {f1 f2 f3 f4 f5 f6 f7 f8 f9 f10 f11 f12 f13 f14 f15 f16 b1 b2 b3 b4 b5 b6 b7 b8 b9 b10 b11 b12 b13 b14 b15 b16 : Nat}, kk f1 f2 f3 f4 f5 f6 f7 f8 f9 f10 f11 f12 f13 f14 f15 f16 b1 b2 b3 b4 b5 b6 b7 b8 b9 b10 b11 b12 b13 b14 b15 b16 = true → post ((nI f1), (nI f2), (nI f3), (nI f4), (nI f5), (nI f6), (nI f7), (nI f8), (nI f9), (nI f10), (nI f11), (nI f12), (nI f13), (nI f14), (nI f15), (nI f16), (zb_va c b1), (zb_ka b2), (zb_ka b3), (zb_ka b4), (zb_ka b5), (zb_va c b6), (zb_va c b7), (zb_ka b8), (zb_ka b9), (zb_va c b10), (zb_ka b11), (zb_ka b12), (zb_ka b13), (zb_ka b14), (zb_ka b15), (zb_ka b16))) : wX_decideIfReady_96 post X_z0 (nI f0_openSet) (nI f0_state) (nI f0_votes) (nI f0_heard) (nI f0_names) (nI f0_name) (nI f0_slot) (nI f0_parts) (nI f0_trouble) (nI f0_troubled) (nI f0_happened) (nI f0_commitCount) (nI f0_first) (nI f0_waiting) (nI f0_sent) (nI f0_lostCount) (zb_va c am531) (zb_ka am532) (zb_ka am533) (zb_ka am534) (zb_ka am535) (zb_va c am536) (zb_va c am537) (zb_ka am538) (zb_ka am539) (zb_va c am5310) (zb_ka am5311) (zb_ka am5312) (zb_ka am5313) (zb_ka am5314) (zb_ka am5315) (zb_ka am5316) := by
  subst e_z0
  unfold zq_X_decideIfReady_96 at h
  unfold wX_decideIfReady_96
  refine zb_if_ok (zb_eqP rfl (rfl : (0 : Int32) = nI 0)) h ?_ ?_
  · intro h
    exact zr_X_decideIfReady_125 hc h hk
  · intro h
    refine zr_pX_strikes hc rfl rfl h ?_
    intro r_267 R_ eR_ f0_openSet_268 f0_state_269 f0_votes_270 f0_heard_271 f0_names_272 f0_name_273 f0_slot_274 f0_parts_275 f0_trouble_276 f0_troubled_277 f0_happened_278 f0_commitCount_279 f0_first_280 f0_waiting_281 f0_sent_282 f0_lostCount_283 am1101_286 am1102_289 am1103_292 am1104_295 am1105_298 am1106_301 am1107_304 am1108_307 am1109_310 am11010_313 am11011_316 am11012_319 am11013_322 am11014_325 am11015_328 am11016_331 h
    subst eR_
    refine zb_if_ok (zb_eqP rfl (rfl : (0 : Int32) = nI 0)) h ?_ ?_
    · intro h
      exact zr_X_decideIfReady_125 hc h hk
    · intro h
      refine zr_pX_breakDown hc rfl h ?_
      intro r_333 R_ eR_ f0_openSet_334 f0_state_335 f0_votes_336 f0_heard_337 f0_names_338 f0_name_339 f0_slot_340 f0_parts_341 f0_trouble_342 f0_troubled_343 f0_happened_344 f0_commitCount_345 f0_first_346 f0_waiting_347 f0_sent_348 f0_lostCount_349 am1211_352 am1212_355 am1213_358 am1214_361 am1215_364 am1216_367 am1217_370 am1218_373 am1219_376 am12110_379 am12111_382 am12112_385 am12113_388 am12114_391 am12115_394 am12116_397 h
      subst eR_
      exact zr_X_decideIfReady_125 hc h hk
noncomputable def zq_X_decideIfReady_95 (kk : Nat → Nat → Nat → Nat → Nat → Nat → Nat → Nat → Nat → Nat → Nat → Nat → Nat → Nat → Nat → Nat → Nat → Nat → Nat → Nat → Nat → Nat → Nat → Nat → Nat → Nat → Nat → Nat → Nat → Nat → Nat → Nat → Bool) (f0_openSet f0_state f0_votes f0_heard f0_names f0_name f0_slot f0_parts f0_trouble f0_troubled f0_happened f0_commitCount f0_first f0_waiting f0_sent f0_lostCount am531 am532 am533 am534 am535 am536 am537 am538 am539 am5310 am5311 am5312 am5313 am5314 am5315 am5316 : Nat) : Bool := (zq_X_decideIfReady_96 kk 0 f0_openSet f0_state f0_votes f0_heard f0_names f0_name f0_slot f0_parts f0_trouble f0_troubled f0_happened f0_commitCount f0_first f0_waiting f0_sent f0_lostCount am531 am532 am533 am534 am535 am536 am537 am538 am539 am5310 am5311 am5312 am5313 am5314 am5315 am5316)
theorem zr_X_decideIfReady_95 {c : Nat} (hc : c ≤ 1023) {post : St2 → Prop} {kk : Nat → Nat → Nat → Nat → Nat → Nat → Nat → Nat → Nat → Nat → Nat → Nat → Nat → Nat → Nat → Nat → Nat → Nat → Nat → Nat → Nat → Nat → Nat → Nat → Nat → Nat → Nat → Nat → Nat → Nat → Nat → Nat → Bool} {f0_openSet f0_state f0_votes f0_heard f0_names f0_name f0_slot f0_parts f0_trouble f0_troubled f0_happened f0_commitCount f0_first f0_waiting f0_sent f0_lostCount am531 am532 am533 am534 am535 am536 am537 am538 am539 am5310 am5311 am5312 am5313 am5314 am5315 am5316 : Nat} (h : zq_X_decideIfReady_95 kk f0_openSet f0_state f0_votes f0_heard f0_names f0_name f0_slot f0_parts f0_trouble f0_troubled f0_happened f0_commitCount f0_first f0_waiting f0_sent f0_lostCount am531 am532 am533 am534 am535 am536 am537 am538 am539 am5310 am5311 am5312 am5313 am5314 am5315 am5316 = true) (hk : ∀ {f1 f2 f3 f4 f5 f6 f7 f8 f9 f10 f11 f12 f13 f14 f15 f16 b1 b2 b3 b4 b5 b6 b7 b8 b9 b10 b11 b12 b13 b14 b15 b16 : Nat}, kk f1 f2 f3 f4 f5 f6 f7 f8 f9 f10 f11 f12 f13 f14 f15 f16 b1 b2 b3 b4 b5 b6 b7 b8 b9 b10 b11 b12 b13 b14 b15 b16 = true → post ((nI f1), (nI f2), (nI f3), (nI f4), (nI f5), (nI f6), (nI f7), (nI f8), (nI f9), (nI f10), (nI f11), (nI f12), (nI f13), (nI f14), (nI f15), (nI f16), (zb_va c b1), (zb_ka b2), (zb_ka b3), (zb_ka b4), (zb_ka b5), (zb_va c b6), (zb_va c b7), (zb_ka b8), (zb_ka b9), (zb_va c b10), (zb_ka b11), (zb_ka b12), (zb_ka b13), (zb_ka b14), (zb_ka b15), (zb_ka b16))) : wX_decideIfReady_95 post (nI f0_openSet) (nI f0_state) (nI f0_votes) (nI f0_heard) (nI f0_names) (nI f0_name) (nI f0_slot) (nI f0_parts) (nI f0_trouble) (nI f0_troubled) (nI f0_happened) (nI f0_commitCount) (nI f0_first) (nI f0_waiting) (nI f0_sent) (nI f0_lostCount) (zb_va c am531) (zb_ka am532) (zb_ka am533) (zb_ka am534) (zb_ka am535) (zb_va c am536) (zb_va c am537) (zb_ka am538) (zb_ka am539) (zb_va c am5310) (zb_ka am5311) (zb_ka am5312) (zb_ka am5313) (zb_ka am5314) (zb_ka am5315) (zb_ka am5316) := by
  unfold zq_X_decideIfReady_95 at h
  unfold wX_decideIfReady_95
  exact zr_X_decideIfReady_96 hc (rfl : (0 : Int32) = nI 0) h hk
noncomputable def zq_X_decideIfReady_91 (kk : Nat → Nat → Nat → Nat → Nat → Nat → Nat → Nat → Nat → Nat → Nat → Nat → Nat → Nat → Nat → Nat → Nat → Nat → Nat → Nat → Nat → Nat → Nat → Nat → Nat → Nat → Nat → Nat → Nat → Nat → Nat → Nat → Bool) (f0_openSet f0_state f0_votes f0_heard f0_names f0_name f0_slot f0_parts f0_trouble f0_troubled f0_happened f0_commitCount f0_first f0_waiting f0_sent f0_lostCount am531 am532 am533 am534 am535 am536 am537 am538 am539 am5310 am5311 am5312 am5313 am5314 am5315 am5316 : Nat) : Bool := (zq_X_decideIfReady_96 kk 1 f0_openSet f0_state f0_votes f0_heard f0_names f0_name f0_slot f0_parts f0_trouble f0_troubled f0_happened f0_commitCount f0_first f0_waiting f0_sent f0_lostCount am531 am532 am533 am534 am535 am536 am537 am538 am539 am5310 am5311 am5312 am5313 am5314 am5315 am5316)
theorem zr_X_decideIfReady_91 {c : Nat} (hc : c ≤ 1023) {post : St2 → Prop} {kk : Nat → Nat → Nat → Nat → Nat → Nat → Nat → Nat → Nat → Nat → Nat → Nat → Nat → Nat → Nat → Nat → Nat → Nat → Nat → Nat → Nat → Nat → Nat → Nat → Nat → Nat → Nat → Nat → Nat → Nat → Nat → Nat → Bool} {f0_openSet f0_state f0_votes f0_heard f0_names f0_name f0_slot f0_parts f0_trouble f0_troubled f0_happened f0_commitCount f0_first f0_waiting f0_sent f0_lostCount am531 am532 am533 am534 am535 am536 am537 am538 am539 am5310 am5311 am5312 am5313 am5314 am5315 am5316 : Nat} (h : zq_X_decideIfReady_91 kk f0_openSet f0_state f0_votes f0_heard f0_names f0_name f0_slot f0_parts f0_trouble f0_troubled f0_happened f0_commitCount f0_first f0_waiting f0_sent f0_lostCount am531 am532 am533 am534 am535 am536 am537 am538 am539 am5310 am5311 am5312 am5313 am5314 am5315 am5316 = true) (hk : ∀ {f1 f2 f3 f4 f5 f6 f7 f8 f9 f10 f11 f12 f13 f14 f15 f16 b1 b2 b3 b4 b5 b6 b7 b8 b9 b10 b11 b12 b13 b14 b15 b16 : Nat}, kk f1 f2 f3 f4 f5 f6 f7 f8 f9 f10 f11 f12 f13 f14 f15 f16 b1 b2 b3 b4 b5 b6 b7 b8 b9 b10 b11 b12 b13 b14 b15 b16 = true → post ((nI f1), (nI f2), (nI f3), (nI f4), (nI f5), (nI f6), (nI f7), (nI f8), (nI f9), (nI f10), (nI f11), (nI f12), (nI f13), (nI f14), (nI f15), (nI f16), (zb_va c b1), (zb_ka b2), (zb_ka b3), (zb_ka b4), (zb_ka b5), (zb_va c b6), (zb_va c b7), (zb_ka b8), (zb_ka b9), (zb_va c b10), (zb_ka b11), (zb_ka b12), (zb_ka b13), (zb_ka b14), (zb_ka b15), (zb_ka b16))) : wX_decideIfReady_91 post (nI f0_openSet) (nI f0_state) (nI f0_votes) (nI f0_heard) (nI f0_names) (nI f0_name) (nI f0_slot) (nI f0_parts) (nI f0_trouble) (nI f0_troubled) (nI f0_happened) (nI f0_commitCount) (nI f0_first) (nI f0_waiting) (nI f0_sent) (nI f0_lostCount) (zb_va c am531) (zb_ka am532) (zb_ka am533) (zb_ka am534) (zb_ka am535) (zb_va c am536) (zb_va c am537) (zb_ka am538) (zb_ka am539) (zb_va c am5310) (zb_ka am5311) (zb_ka am5312) (zb_ka am5313) (zb_ka am5314) (zb_ka am5315) (zb_ka am5316) := by
  unfold zq_X_decideIfReady_91 at h
  unfold wX_decideIfReady_91
  exact zr_X_decideIfReady_96 hc (rfl : (1 : Int32) = nI 1) h hk
noncomputable def zq_X_decideIfReady_64 (kk : Nat → Nat → Nat → Nat → Nat → Nat → Nat → Nat → Nat → Nat → Nat → Nat → Nat → Nat → Nat → Nat → Nat → Nat → Nat → Nat → Nat → Nat → Nat → Nat → Nat → Nat → Nat → Nat → Nat → Nat → Nat → Nat → Bool) (f0_openSet f0_state f0_votes f0_heard f0_names f0_name f0_slot f0_parts f0_trouble f0_troubled f0_happened f0_commitCount f0_first f0_waiting f0_sent f0_lostCount am531 am532 am533 am534 am535 am536 am537 am538 am539 am5310 am5311 am5312 am5313 am5314 am5315 am5316 : Nat) : Bool := (zq_pX_isPart (fun r_199 => (zb_if (zb_eq r_199 0) (zb_if (zb_eq f0_trouble 4) (zq_X_decideIfReady_91 kk f0_openSet f0_state f0_votes f0_heard f0_names f0_name f0_slot f0_parts f0_trouble f0_troubled f0_happened f0_commitCount f0_first f0_waiting f0_sent f0_lostCount am531 am532 am533 am534 am535 am536 am537 am538 am539 am5310 am5311 am5312 am5313 am5314 am5315 am5316) (zb_if (zb_eq f0_trouble 5) (zq_X_decideIfReady_91 kk f0_openSet f0_state f0_votes f0_heard f0_names f0_name f0_slot f0_parts f0_trouble f0_troubled f0_happened f0_commitCount f0_first f0_waiting f0_sent f0_lostCount am531 am532 am533 am534 am535 am536 am537 am538 am539 am5310 am5311 am5312 am5313 am5314 am5315 am5316) (zq_X_decideIfReady_95 kk f0_openSet f0_state f0_votes f0_heard f0_names f0_name f0_slot f0_parts f0_trouble f0_troubled f0_happened f0_commitCount f0_first f0_waiting f0_sent f0_lostCount am531 am532 am533 am534 am535 am536 am537 am538 am539 am5310 am5311 am5312 am5313 am5314 am5315 am5316))) (zq_X_decideIfReady_95 kk f0_openSet f0_state f0_votes f0_heard f0_names f0_name f0_slot f0_parts f0_trouble f0_troubled f0_happened f0_commitCount f0_first f0_waiting f0_sent f0_lostCount am531 am532 am533 am534 am535 am536 am537 am538 am539 am5310 am5311 am5312 am5313 am5314 am5315 am5316))) f0_openSet f0_state f0_votes f0_heard f0_names f0_name f0_slot f0_parts f0_trouble f0_troubled f0_happened f0_commitCount f0_first f0_waiting f0_sent f0_lostCount am531 am532 am533 am534 am535 am536 am537 am538 am539 am5310 am5311 am5312 am5313 am5314 am5315 am5316 f0_troubled)
theorem zr_X_decideIfReady_64 {c : Nat} (hc : c ≤ 1023) {post : St2 → Prop} {kk : Nat → Nat → Nat → Nat → Nat → Nat → Nat → Nat → Nat → Nat → Nat → Nat → Nat → Nat → Nat → Nat → Nat → Nat → Nat → Nat → Nat → Nat → Nat → Nat → Nat → Nat → Nat → Nat → Nat → Nat → Nat → Nat → Bool} {f0_openSet f0_state f0_votes f0_heard f0_names f0_name f0_slot f0_parts f0_trouble f0_troubled f0_happened f0_commitCount f0_first f0_waiting f0_sent f0_lostCount am531 am532 am533 am534 am535 am536 am537 am538 am539 am5310 am5311 am5312 am5313 am5314 am5315 am5316 : Nat} (h : zq_X_decideIfReady_64 kk f0_openSet f0_state f0_votes f0_heard f0_names f0_name f0_slot f0_parts f0_trouble f0_troubled f0_happened f0_commitCount f0_first f0_waiting f0_sent f0_lostCount am531 am532 am533 am534 am535 am536 am537 am538 am539 am5310 am5311 am5312 am5313 am5314 am5315 am5316 = true) (hk : ∀ {f1 f2 f3 f4 f5 f6 f7 f8 f9 f10 f11 f12 f13 f14 f15 f16 b1 b2 b3 b4 b5 b6 b7 b8 b9 b10 b11 b12 b13 b14 b15 b16 : Nat}, kk f1 f2 f3 f4 f5 f6 f7 f8 f9 f10 f11 f12 f13 f14 f15 f16 b1 b2 b3 b4 b5 b6 b7 b8 b9 b10 b11 b12 b13 b14 b15 b16 = true → post ((nI f1), (nI f2), (nI f3), (nI f4), (nI f5), (nI f6), (nI f7), (nI f8), (nI f9), (nI f10), (nI f11), (nI f12), (nI f13), (nI f14), (nI f15), (nI f16), (zb_va c b1), (zb_ka b2), (zb_ka b3), (zb_ka b4), (zb_ka b5), (zb_va c b6), (zb_va c b7), (zb_ka b8), (zb_ka b9), (zb_va c b10), (zb_ka b11), (zb_ka b12), (zb_ka b13), (zb_ka b14), (zb_ka b15), (zb_ka b16))) : wX_decideIfReady_64 post (nI f0_openSet) (nI f0_state) (nI f0_votes) (nI f0_heard) (nI f0_names) (nI f0_name) (nI f0_slot) (nI f0_parts) (nI f0_trouble) (nI f0_troubled) (nI f0_happened) (nI f0_commitCount) (nI f0_first) (nI f0_waiting) (nI f0_sent) (nI f0_lostCount) (zb_va c am531) (zb_ka am532) (zb_ka am533) (zb_ka am534) (zb_ka am535) (zb_va c am536) (zb_va c am537) (zb_ka am538) (zb_ka am539) (zb_va c am5310) (zb_ka am5311) (zb_ka am5312) (zb_ka am5313) (zb_ka am5314) (zb_ka am5315) (zb_ka am5316) := by
  unfold zq_X_decideIfReady_64 at h
  unfold wX_decideIfReady_64
  refine zr_pX_isPart hc rfl h ?_
  intro r_199 R_ eR_ h
  subst eR_
  refine zb_if_ok (zb_eqP rfl (rfl : (0 : Int32) = nI 0)) h ?_ ?_
  · intro h
    refine zb_if_ok (zb_eqP rfl (rfl : (4 : Int32) = nI 4)) h ?_ ?_
    · intro h
      exact zr_X_decideIfReady_91 hc h hk
    · intro h
      refine zb_if_ok (zb_eqP rfl (rfl : (5 : Int32) = nI 5)) h ?_ ?_
      · intro h
        exact zr_X_decideIfReady_91 hc h hk
      · intro h
        exact zr_X_decideIfReady_95 hc h hk
  · intro h
    exact zr_X_decideIfReady_95 hc h hk
noncomputable def zq_pX_decideIfReady (kk : Nat → Nat → Nat → Nat → Nat → Nat → Nat → Nat → Nat → Nat → Nat → Nat → Nat → Nat → Nat → Nat → Nat → Nat → Nat → Nat → Nat → Nat → Nat → Nat → Nat → Nat → Nat → Nat → Nat → Nat → Nat → Nat → Bool) (f0_openSet f0_state f0_votes f0_heard f0_names f0_name f0_slot f0_parts f0_trouble f0_troubled f0_happened f0_commitCount f0_first f0_waiting f0_sent f0_lostCount a1 a2 a3 a4 a5 a6 a7 a8 a9 a10 a11 a12 a13 a14 a15 a16 : Nat) : Bool := (zb_if (zb_eq f0_votes f0_parts) (zq_pX_strikes (fun r_2 f0_openSet_3 f0_state_4 f0_votes_5 f0_heard_6 f0_names_7 f0_name_8 f0_slot_9 f0_parts_10 f0_trouble_11 f0_troubled_12 f0_happened_13 f0_commitCount_14 f0_first_15 f0_waiting_16 f0_sent_17 f0_lostCount_18 am181_21 am182_24 am183_27 am184_30 am185_33 am186_36 am187_39 am188_42 am189_45 am1810_48 am1811_51 am1812_54 am1813_57 am1814_60 am1815_63 am1816_66 => (zb_if (zb_eq r_2 0) (zq_pX_log (fun f0_openSet_69 f0_state_70 f0_votes_71 f0_heard_72 f0_names_73 f0_name_74 f0_slot_75 f0_parts_76 f0_trouble_77 f0_troubled_78 f0_happened_79 f0_commitCount_80 f0_first_81 f0_waiting_82 f0_sent_83 f0_lostCount_84 am391_87 am392_90 am393_93 am394_96 am395_99 am396_102 am397_105 am398_108 am399_111 am3910_114 am3911_117 am3912_120 am3913_123 am3914_126 am3915_129 am3916_132 => (zq_pX_strikes (fun r_133 f0_openSet_134 f0_state_135 f0_votes_136 f0_heard_137 f0_names_138 f0_name_139 f0_slot_140 f0_parts_141 f0_trouble_142 f0_troubled_143 f0_happened_144 f0_commitCount_145 f0_first_146 f0_waiting_147 f0_sent_148 f0_lostCount_149 am531_152 am532_155 am533_158 am534_161 am535_164 am536_167 am537_170 am538_173 am539_176 am5310_179 am5311_182 am5312_185 am5313_188 am5314_191 am5315_194 am5316_197 => (zb_if (zb_eq r_133 0) (zq_X_decideIfReady_64 kk f0_openSet_134 f0_state_135 f0_votes_136 f0_heard_137 f0_names_138 f0_name_139 f0_slot_140 f0_parts_141 f0_trouble_142 f0_troubled_143 f0_happened_144 f0_commitCount_145 f0_first_146 f0_waiting_147 f0_sent_148 f0_lostCount_149 am531_152 am532_155 am533_158 am534_161 am535_164 am536_167 am537_170 am538_173 am539_176 am5310_179 am5311_182 am5312_185 am5313_188 am5314_191 am5315_194 am5316_197) (zq_pX_breakLeader (fun r_400 f0_openSet_401 f0_state_402 f0_votes_403 f0_heard_404 f0_names_405 f0_name_406 f0_slot_407 f0_parts_408 f0_trouble_409 f0_troubled_410 f0_happened_411 f0_commitCount_412 f0_first_413 f0_waiting_414 f0_sent_415 f0_lostCount_416 am601_419 am602_422 am603_425 am604_428 am605_431 am606_434 am607_437 am608_440 am609_443 am6010_446 am6011_449 am6012_452 am6013_455 am6014_458 am6015_461 am6016_464 => (zq_X_decideIfReady_64 kk f0_openSet_401 f0_state_402 f0_votes_403 f0_heard_404 f0_names_405 f0_name_406 f0_slot_407 f0_parts_408 f0_trouble_409 f0_troubled_410 f0_happened_411 f0_commitCount_412 f0_first_413 f0_waiting_414 f0_sent_415 f0_lostCount_416 am601_419 am602_422 am603_425 am604_428 am605_431 am606_434 am607_437 am608_440 am609_443 am6010_446 am6011_449 am6012_452 am6013_455 am6014_458 am6015_461 am6016_464)) f0_openSet_134 f0_state_135 f0_votes_136 f0_heard_137 f0_names_138 f0_name_139 f0_slot_140 f0_parts_141 f0_trouble_142 f0_troubled_143 f0_happened_144 f0_commitCount_145 f0_first_146 f0_waiting_147 f0_sent_148 f0_lostCount_149 am531_152 am532_155 am533_158 am534_161 am535_164 am536_167 am537_170 am538_173 am539_176 am5310_179 am5311_182 am5312_185 am5313_188 am5314_191 am5315_194 am5316_197))) f0_openSet_69 2 f0_votes_71 f0_heard_72 f0_names_73 f0_name_74 f0_slot_75 f0_parts_76 f0_trouble_77 f0_troubled_78 f0_happened_79 f0_commitCount_80 f0_first_81 f0_waiting_82 f0_sent_83 f0_lostCount_84 am391_87 am392_90 am393_93 am394_96 am395_99 am396_102 am397_105 am398_108 am399_111 am3910_114 am3911_117 am3912_120 am3913_123 am3914_126 am3915_129 am3916_132 3 f0_troubled_78)) f0_openSet_3 f0_state_4 f0_votes_5 f0_heard_6 f0_names_7 f0_name_8 f0_slot_9 f0_parts_10 f0_trouble_11 f0_troubled_12 f0_happened_13 f0_commitCount_14 f0_first_15 f0_waiting_16 f0_sent_17 f0_lostCount_18 am181_21 am182_24 am183_27 am184_30 am185_33 am186_36 am187_39 am188_42 am189_45 am1810_48 am1811_51 am1812_54 am1813_57 am1814_60 am1815_63 am1816_66 3 5 f0_name_8 0 (zb_kv 0)) (zq_pX_breakLeader (fun r_465 f0_openSet_466 f0_state_467 f0_votes_468 f0_heard_469 f0_names_470 f0_name_471 f0_slot_472 f0_parts_473 f0_trouble_474 f0_troubled_475 f0_happened_476 f0_commitCount_477 f0_first_478 f0_waiting_479 f0_sent_480 f0_lostCount_481 am251_484 am252_487 am253_490 am254_493 am255_496 am256_499 am257_502 am258_505 am259_508 am2510_511 am2511_514 am2512_517 am2513_520 am2514_523 am2515_526 am2516_529 => (kk f0_openSet_466 f0_state_467 f0_votes_468 f0_heard_469 f0_names_470 f0_name_471 f0_slot_472 f0_parts_473 f0_trouble_474 f0_troubled_475 f0_happened_476 f0_commitCount_477 f0_first_478 f0_waiting_479 f0_sent_480 f0_lostCount_481 am251_484 am252_487 am253_490 am254_493 am255_496 am256_499 am257_502 am258_505 am259_508 am2510_511 am2511_514 am2512_517 am2513_520 am2514_523 am2515_526 am2516_529)) f0_openSet_3 f0_state_4 f0_votes_5 f0_heard_6 f0_names_7 f0_name_8 f0_slot_9 f0_parts_10 f0_trouble_11 f0_troubled_12 f0_happened_13 f0_commitCount_14 f0_first_15 f0_waiting_16 f0_sent_17 f0_lostCount_18 am181_21 am182_24 am183_27 am184_30 am185_33 am186_36 am187_39 am188_42 am189_45 am1810_48 am1811_51 am1812_54 am1813_57 am1814_60 am1815_63 am1816_66))) f0_openSet f0_state f0_votes f0_heard f0_names f0_name f0_slot f0_parts f0_trouble f0_troubled f0_happened f0_commitCount f0_first f0_waiting f0_sent f0_lostCount a1 a2 a3 a4 a5 a6 a7 a8 a9 a10 a11 a12 a13 a14 a15 a16 2 f0_troubled) (kk f0_openSet f0_state f0_votes f0_heard f0_names f0_name f0_slot f0_parts f0_trouble f0_troubled f0_happened f0_commitCount f0_first f0_waiting f0_sent f0_lostCount a1 a2 a3 a4 a5 a6 a7 a8 a9 a10 a11 a12 a13 a14 a15 a16))
theorem zr_pX_decideIfReady {c : Nat} (hc : c ≤ 1023) {post : St2 → Prop} {kk : Nat → Nat → Nat → Nat → Nat → Nat → Nat → Nat → Nat → Nat → Nat → Nat → Nat → Nat → Nat → Nat → Nat → Nat → Nat → Nat → Nat → Nat → Nat → Nat → Nat → Nat → Nat → Nat → Nat → Nat → Nat → Nat → Bool} {f0_openSet f0_state f0_votes f0_heard f0_names f0_name f0_slot f0_parts f0_trouble f0_troubled f0_happened f0_commitCount f0_first f0_waiting f0_sent f0_lostCount a1 a2 a3 a4 a5 a6 a7 a8 a9 a10 a11 a12 a13 a14 a15 a16 : Nat} (h : zq_pX_decideIfReady kk f0_openSet f0_state f0_votes f0_heard f0_names f0_name f0_slot f0_parts f0_trouble f0_troubled f0_happened f0_commitCount f0_first f0_waiting f0_sent f0_lostCount a1 a2 a3 a4 a5 a6 a7 a8 a9 a10 a11 a12 a13 a14 a15 a16 = true) (hk : ∀ {f1 f2 f3 f4 f5 f6 f7 f8 f9 f10 f11 f12 f13 f14 f15 f16 b1 b2 b3 b4 b5 b6 b7 b8 b9 b10 b11 b12 b13 b14 b15 b16 : Nat}, kk f1 f2 f3 f4 f5 f6 f7 f8 f9 f10 f11 f12 f13 f14 f15 f16 b1 b2 b3 b4 b5 b6 b7 b8 b9 b10 b11 b12 b13 b14 b15 b16 = true → post ((nI f1), (nI f2), (nI f3), (nI f4), (nI f5), (nI f6), (nI f7), (nI f8), (nI f9), (nI f10), (nI f11), (nI f12), (nI f13), (nI f14), (nI f15), (nI f16), (zb_va c b1), (zb_ka b2), (zb_ka b3), (zb_ka b4), (zb_ka b5), (zb_va c b6), (zb_va c b7), (zb_ka b8), (zb_ka b9), (zb_va c b10), (zb_ka b11), (zb_ka b12), (zb_ka b13), (zb_ka b14), (zb_ka b15), (zb_ka b16))) : wpX_decideIfReady post ((nI f0_openSet), (nI f0_state), (nI f0_votes), (nI f0_heard), (nI f0_names), (nI f0_name), (nI f0_slot), (nI f0_parts), (nI f0_trouble), (nI f0_troubled), (nI f0_happened), (nI f0_commitCount), (nI f0_first), (nI f0_waiting), (nI f0_sent), (nI f0_lostCount), (zb_va c a1), (zb_ka a2), (zb_ka a3), (zb_ka a4), (zb_ka a5), (zb_va c a6), (zb_va c a7), (zb_ka a8), (zb_ka a9), (zb_va c a10), (zb_ka a11), (zb_ka a12), (zb_ka a13), (zb_ka a14), (zb_ka a15), (zb_ka a16)) := by
  unfold zq_pX_decideIfReady at h
  unfold wpX_decideIfReady
  refine zb_if_ok (zb_eqP rfl rfl) h ?_ ?_
  · intro h
    refine zr_pX_strikes hc (rfl : (2 : Int32) = nI 2) rfl h ?_
    intro r_2 R_ eR_ f0_openSet_3 f0_state_4 f0_votes_5 f0_heard_6 f0_names_7 f0_name_8 f0_slot_9 f0_parts_10 f0_trouble_11 f0_troubled_12 f0_happened_13 f0_commitCount_14 f0_first_15 f0_waiting_16 f0_sent_17 f0_lostCount_18 am181_21 am182_24 am183_27 am184_30 am185_33 am186_36 am187_39 am188_42 am189_45 am1810_48 am1811_51 am1812_54 am1813_57 am1814_60 am1815_63 am1816_66 h
    subst eR_
    refine zb_if_ok (zb_eqP rfl (rfl : (0 : Int32) = nI 0)) h ?_ ?_
    · intro h
      refine zr_pX_log hc (rfl : (3 : Int32) = nI 3) (rfl : (5 : Int32) = nI 5) rfl (rfl : (0 : Int32) = nI 0) (zb_kvP (rfl : (0 : Int32) = nI 0)) h ?_
      intro f0_openSet_69 f0_state_70 f0_votes_71 f0_heard_72 f0_names_73 f0_name_74 f0_slot_75 f0_parts_76 f0_trouble_77 f0_troubled_78 f0_happened_79 f0_commitCount_80 f0_first_81 f0_waiting_82 f0_sent_83 f0_lostCount_84 am391_87 am392_90 am393_93 am394_96 am395_99 am396_102 am397_105 am398_108 am399_111 am3910_114 am3911_117 am3912_120 am3913_123 am3914_126 am3915_129 am3916_132 h
      refine zr_pX_strikes hc (rfl : (3 : Int32) = nI 3) rfl h ?_
      intro r_133 R_ eR_ f0_openSet_134 f0_state_135 f0_votes_136 f0_heard_137 f0_names_138 f0_name_139 f0_slot_140 f0_parts_141 f0_trouble_142 f0_troubled_143 f0_happened_144 f0_commitCount_145 f0_first_146 f0_waiting_147 f0_sent_148 f0_lostCount_149 am531_152 am532_155 am533_158 am534_161 am535_164 am536_167 am537_170 am538_173 am539_176 am5310_179 am5311_182 am5312_185 am5313_188 am5314_191 am5315_194 am5316_197 h
      subst eR_
      refine zb_if_ok (zb_eqP rfl (rfl : (0 : Int32) = nI 0)) h ?_ ?_
      · intro h
        exact zr_X_decideIfReady_64 hc h hk
      · intro h
        refine zr_pX_breakLeader hc h ?_
        intro r_400 R_ eR_ f0_openSet_401 f0_state_402 f0_votes_403 f0_heard_404 f0_names_405 f0_name_406 f0_slot_407 f0_parts_408 f0_trouble_409 f0_troubled_410 f0_happened_411 f0_commitCount_412 f0_first_413 f0_waiting_414 f0_sent_415 f0_lostCount_416 am601_419 am602_422 am603_425 am604_428 am605_431 am606_434 am607_437 am608_440 am609_443 am6010_446 am6011_449 am6012_452 am6013_455 am6014_458 am6015_461 am6016_464 h
        subst eR_
        exact zr_X_decideIfReady_64 hc h hk
    · intro h
      refine zr_pX_breakLeader hc h ?_
      intro r_465 R_ eR_ f0_openSet_466 f0_state_467 f0_votes_468 f0_heard_469 f0_names_470 f0_name_471 f0_slot_472 f0_parts_473 f0_trouble_474 f0_troubled_475 f0_happened_476 f0_commitCount_477 f0_first_478 f0_waiting_479 f0_sent_480 f0_lostCount_481 am251_484 am252_487 am253_490 am254_493 am255_496 am256_499 am257_502 am258_505 am259_508 am2510_511 am2511_514 am2512_517 am2513_520 am2514_523 am2515_526 am2516_529 h
      subst eR_
      exact hk h
  · intro h
    exact hk h
noncomputable def zq_X_shortenLogs_20 (kk : Nat → Nat → Nat → Nat → Nat → Nat → Nat → Nat → Nat → Nat → Nat → Nat → Nat → Nat → Nat → Nat → Nat → Nat → Nat → Nat → Nat → Nat → Nat → Nat → Nat → Nat → Nat → Nat → Nat → Nat → Nat → Nat → Bool) (kJ : Nat → Nat → Nat → Nat → Nat → Nat → Nat → Nat → Nat → Nat → Nat → Nat → Nat → Nat → Nat → Nat → Nat → Bool) (x1 f0_openSet f0_state f0_votes f0_heard f0_names f0_name f0_slot f0_parts f0_trouble f0_troubled f0_happened f0_commitCount f0_first f0_waiting f0_sent f0_lostCount : Nat) : Nat → Nat → Nat → Nat → Nat → Nat → Nat → Nat → Nat → Nat → Nat → Nat → Nat → Nat → Nat → Nat → Nat → Nat → Bool
  | 0 => fun _ _ _ _ _ _ _ _ _ _ _ _ _ _ _ _ _ => false
  | n + 1 => fun x2 a1 a2 a3 a4 a5 a6 a7 a8 a9 a10 a11 a12 a13 a14 a15 a16 => (zb_if (zb_le 12 x2) (zb_in x1 4 (zb_let (zb_wr a2 (zb_cl x1) 0) (fun a2_10 => (zb_let (Nat.add x1 1) (fun x1_11 => (kJ x1_11 a1 a2_10 a3 a4 a5 a6 a7 a8 a9 a10 a11 a12 a13 a14 a15 a16)))))) (zb_in x2 12 (zb_in x2 12 (zb_let (zb_wr a1 (zb_cl x2) (zb_rd a7 x2)) (fun a1_14 => (zb_let (Nat.add x2 3) (fun x2_15 => (zq_X_shortenLogs_20 kk kJ x1 f0_openSet f0_state f0_votes f0_heard f0_names f0_name f0_slot f0_parts f0_trouble f0_troubled f0_happened f0_commitCount f0_first f0_waiting f0_sent f0_lostCount n x2_15 a1_14 a2 a3 a4 a5 a6 a7 a8 a9 a10 a11 a12 a13 a14 a15 a16))))))))
theorem zr_X_shortenLogs_20 {c : Nat} (hc : c ≤ 1023) {post : St2 → Prop} {kk : Nat → Nat → Nat → Nat → Nat → Nat → Nat → Nat → Nat → Nat → Nat → Nat → Nat → Nat → Nat → Nat → Nat → Nat → Nat → Nat → Nat → Nat → Nat → Nat → Nat → Nat → Nat → Nat → Nat → Nat → Nat → Nat → Bool} {J : Int32 → (Nat → Int32) → (Nat → Int32) → (Nat → Int32) → (Nat → Int32) → (Nat → Int32) → (Nat → Int32) → (Nat → Int32) → (Nat → Int32) → (Nat → Int32) → (Nat → Int32) → (Nat → Int32) → (Nat → Int32) → (Nat → Int32) → (Nat → Int32) → (Nat → Int32) → (Nat → Int32) → Prop} {kJ : Nat → Nat → Nat → Nat → Nat → Nat → Nat → Nat → Nat → Nat → Nat → Nat → Nat → Nat → Nat → Nat → Nat → Bool} (hk : ∀ {f1 f2 f3 f4 f5 f6 f7 f8 f9 f10 f11 f12 f13 f14 f15 f16 b1 b2 b3 b4 b5 b6 b7 b8 b9 b10 b11 b12 b13 b14 b15 b16 : Nat}, kk f1 f2 f3 f4 f5 f6 f7 f8 f9 f10 f11 f12 f13 f14 f15 f16 b1 b2 b3 b4 b5 b6 b7 b8 b9 b10 b11 b12 b13 b14 b15 b16 = true → post ((nI f1), (nI f2), (nI f3), (nI f4), (nI f5), (nI f6), (nI f7), (nI f8), (nI f9), (nI f10), (nI f11), (nI f12), (nI f13), (nI f14), (nI f15), (nI f16), (zb_va c b1), (zb_ka b2), (zb_ka b3), (zb_ka b4), (zb_ka b5), (zb_va c b6), (zb_va c b7), (zb_ka b8), (zb_ka b9), (zb_va c b10), (zb_ka b11), (zb_ka b12), (zb_ka b13), (zb_ka b14), (zb_ka b15), (zb_ka b16))) (hJ : ∀ {x1_ a1_ a2_ a3_ a4_ a5_ a6_ a7_ a8_ a9_ a10_ a11_ a12_ a13_ a14_ a15_ a16_ : Nat}, kJ x1_ a1_ a2_ a3_ a4_ a5_ a6_ a7_ a8_ a9_ a10_ a11_ a12_ a13_ a14_ a15_ a16_ = true → J (nI x1_) (zb_va c a1_) (zb_ka a2_) (zb_ka a3_) (zb_ka a4_) (zb_ka a5_) (zb_va c a6_) (zb_va c a7_) (zb_ka a8_) (zb_ka a9_) (zb_va c a10_) (zb_ka a11_) (zb_ka a12_) (zb_ka a13_) (zb_ka a14_) (zb_ka a15_) (zb_ka a16_)) {x1 f0_openSet f0_state f0_votes f0_heard f0_names f0_name f0_slot f0_parts f0_trouble f0_troubled f0_happened f0_commitCount f0_first f0_waiting f0_sent f0_lostCount : Nat} {X_x1 : Int32} (e_x1 : X_x1 = nI x1) : ∀ (n : Nat) {x2 a1 a2 a3 a4 a5 a6 a7 a8 a9 a10 a11 a12 a13 a14 a15 a16 : Nat} {X_x2 : Int32}, X_x2 = nI x2 → zq_X_shortenLogs_20 kk kJ x1 f0_openSet f0_state f0_votes f0_heard f0_names f0_name f0_slot f0_parts f0_trouble f0_troubled f0_happened f0_commitCount f0_first f0_waiting f0_sent f0_lostCount n x2 a1 a2 a3 a4 a5 a6 a7 a8 a9 a10 a11 a12 a13 a14 a15 a16 = true → wX_shortenLogs_20 post J X_x1 (nI f0_openSet) (nI f0_state) (nI f0_votes) (nI f0_heard) (nI f0_names) (nI f0_name) (nI f0_slot) (nI f0_parts) (nI f0_trouble) (nI f0_troubled) (nI f0_happened) (nI f0_commitCount) (nI f0_first) (nI f0_waiting) (nI f0_sent) (nI f0_lostCount) n X_x2 (zb_va c a1) (zb_ka a2) (zb_ka a3) (zb_ka a4) (zb_ka a5) (zb_va c a6) (zb_va c a7) (zb_ka a8) (zb_ka a9) (zb_va c a10) (zb_ka a11) (zb_ka a12) (zb_ka a13) (zb_ka a14) (zb_ka a15) (zb_ka a16) := by
  subst e_x1
  intro n
  induction n with
  | zero =>
    intro x2 a1 a2 a3 a4 a5 a6 a7 a8 a9 a10 a11 a12 a13 a14 a15 a16 X_x2 e_x2 h
    exact absurd (show false = true from h) Bool.false_ne_true
  | succ n ih =>
    intro x2 a1 a2 a3 a4 a5 a6 a7 a8 a9 a10 a11 a12 a13 a14 a15 a16 X_x2 e_x2 h
    subst e_x2
    refine zb_if_ok (zb_leP (rfl : (12 : Int32) = nI 12) rfl) h ?_ ?_
    · intro h
      refine zb_in_ok rfl (by decide) h ?_
      intro h
      refine zb_let_ka h (zb_upK rfl (rfl : (0 : Int32) = nI 0)) ?_
      intro h
      refine zb_let_k h (zb_addP rfl (rfl : (1 : Int32) = nI 1)) ?_
      intro h
      exact hJ h
    · intro h
      refine zb_in_ok rfl (by decide) h ?_
      intro h
      refine zb_in_ok rfl (by decide) h ?_
      intro h
      refine zb_let_va h (zb_upV rfl (zb_rdV rfl)) ?_
      intro h
      refine zb_let_k h (zb_addP rfl (rfl : (3 : Int32) = nI 3)) ?_
      intro h
      exact ih rfl h
noncomputable def zq_X_shortenLogs_2 (kk : Nat → Nat → Nat → Nat → Nat → Nat → Nat → Nat → Nat → Nat → Nat → Nat → Nat → Nat → Nat → Nat → Nat → Nat → Nat → Nat → Nat → Nat → Nat → Nat → Nat → Nat → Nat → Nat → Nat → Nat → Nat → Nat → Bool) (f0_openSet f0_state f0_votes f0_heard f0_names f0_name f0_slot f0_parts f0_trouble f0_troubled f0_happened f0_commitCount f0_first f0_waiting f0_sent f0_lostCount : Nat) : Nat → Nat → Nat → Nat → Nat → Nat → Nat → Nat → Nat → Nat → Nat → Nat → Nat → Nat → Nat → Nat → Nat → Nat → Bool
  | 0 => fun _ _ _ _ _ _ _ _ _ _ _ _ _ _ _ _ _ => false
  | n + 1 => fun x1 a1 a2 a3 a4 a5 a6 a7 a8 a9 a10 a11 a12 a13 a14 a15 a16 => (zb_if (zb_le 3 x1) (zb_if (zb_le (zb_cell a2 3) 40) (kk f0_openSet f0_state f0_votes f0_heard f0_names f0_name f0_slot f0_parts f0_trouble f0_troubled f0_happened f0_commitCount f0_first f0_waiting f0_sent f0_lostCount a1 a2 a3 a4 a5 a6 a7 a8 a9 a10 a11 a12 a13 a14 a15 a16) (zb_let (zb_wr a2 3 0) (fun a2_4 => (kk f0_openSet f0_state f0_votes f0_heard f0_names f0_name f0_slot f0_parts f0_trouble f0_troubled f0_happened f0_commitCount f0_first f0_waiting f0_sent f0_lostCount a1 a2_4 a3 a4 a5 a6 a7 a8 a9 a10 a11 a12 a13 a14 a15 a16)))) (zb_in x1 4 (zb_if (zb_le (zb_rd a2 x1) 40) (zb_let (Nat.add x1 1) (fun x1_7 => (zq_X_shortenLogs_2 kk f0_openSet f0_state f0_votes f0_heard f0_names f0_name f0_slot f0_parts f0_trouble f0_troubled f0_happened f0_commitCount f0_first f0_waiting f0_sent f0_lostCount n x1_7 a1 a2 a3 a4 a5 a6 a7 a8 a9 a10 a11 a12 a13 a14 a15 a16))) (zq_X_shortenLogs_20 kk (zq_X_shortenLogs_2 kk f0_openSet f0_state f0_votes f0_heard f0_names f0_name f0_slot f0_parts f0_trouble f0_troubled f0_happened f0_commitCount f0_first f0_waiting f0_sent f0_lostCount n) x1 f0_openSet f0_state f0_votes f0_heard f0_names f0_name f0_slot f0_parts f0_trouble f0_troubled f0_happened f0_commitCount f0_first f0_waiting f0_sent f0_lostCount 70 x1 a1 a2 a3 a4 a5 a6 a7 a8 a9 a10 a11 a12 a13 a14 a15 a16))))
theorem zr_X_shortenLogs_2 {c : Nat} (hc : c ≤ 1023) {post : St2 → Prop} {kk : Nat → Nat → Nat → Nat → Nat → Nat → Nat → Nat → Nat → Nat → Nat → Nat → Nat → Nat → Nat → Nat → Nat → Nat → Nat → Nat → Nat → Nat → Nat → Nat → Nat → Nat → Nat → Nat → Nat → Nat → Nat → Nat → Bool} (hk : ∀ {f1 f2 f3 f4 f5 f6 f7 f8 f9 f10 f11 f12 f13 f14 f15 f16 b1 b2 b3 b4 b5 b6 b7 b8 b9 b10 b11 b12 b13 b14 b15 b16 : Nat}, kk f1 f2 f3 f4 f5 f6 f7 f8 f9 f10 f11 f12 f13 f14 f15 f16 b1 b2 b3 b4 b5 b6 b7 b8 b9 b10 b11 b12 b13 b14 b15 b16 = true → post ((nI f1), (nI f2), (nI f3), (nI f4), (nI f5), (nI f6), (nI f7), (nI f8), (nI f9), (nI f10), (nI f11), (nI f12), (nI f13), (nI f14), (nI f15), (nI f16), (zb_va c b1), (zb_ka b2), (zb_ka b3), (zb_ka b4), (zb_ka b5), (zb_va c b6), (zb_va c b7), (zb_ka b8), (zb_ka b9), (zb_va c b10), (zb_ka b11), (zb_ka b12), (zb_ka b13), (zb_ka b14), (zb_ka b15), (zb_ka b16))) {f0_openSet f0_state f0_votes f0_heard f0_names f0_name f0_slot f0_parts f0_trouble f0_troubled f0_happened f0_commitCount f0_first f0_waiting f0_sent f0_lostCount : Nat} : ∀ (n : Nat) {x1 a1 a2 a3 a4 a5 a6 a7 a8 a9 a10 a11 a12 a13 a14 a15 a16 : Nat} {X_x1 : Int32}, X_x1 = nI x1 → zq_X_shortenLogs_2 kk f0_openSet f0_state f0_votes f0_heard f0_names f0_name f0_slot f0_parts f0_trouble f0_troubled f0_happened f0_commitCount f0_first f0_waiting f0_sent f0_lostCount n x1 a1 a2 a3 a4 a5 a6 a7 a8 a9 a10 a11 a12 a13 a14 a15 a16 = true → wX_shortenLogs_2 post (nI f0_openSet) (nI f0_state) (nI f0_votes) (nI f0_heard) (nI f0_names) (nI f0_name) (nI f0_slot) (nI f0_parts) (nI f0_trouble) (nI f0_troubled) (nI f0_happened) (nI f0_commitCount) (nI f0_first) (nI f0_waiting) (nI f0_sent) (nI f0_lostCount) n X_x1 (zb_va c a1) (zb_ka a2) (zb_ka a3) (zb_ka a4) (zb_ka a5) (zb_va c a6) (zb_va c a7) (zb_ka a8) (zb_ka a9) (zb_va c a10) (zb_ka a11) (zb_ka a12) (zb_ka a13) (zb_ka a14) (zb_ka a15) (zb_ka a16) := by
  intro n
  induction n with
  | zero =>
    intro x1 a1 a2 a3 a4 a5 a6 a7 a8 a9 a10 a11 a12 a13 a14 a15 a16 X_x1 e_x1 h
    exact absurd (show false = true from h) Bool.false_ne_true
  | succ n ih =>
    intro x1 a1 a2 a3 a4 a5 a6 a7 a8 a9 a10 a11 a12 a13 a14 a15 a16 X_x1 e_x1 h
    subst e_x1
    refine zb_if_ok (zb_leP (rfl : (3 : Int32) = nI 3) rfl) h ?_ ?_
    · intro h
      refine zb_if_ok (zb_leP rfl (rfl : (40 : Int32) = nI 40)) h ?_ ?_
      · intro h
        exact hk h
      · intro h
        refine zb_let_ka h (zb_upnK (rfl : (0 : Int32) = nI 0)) ?_
        intro h
        exact hk h
    · intro h
      refine zb_in_ok rfl (by decide) h ?_
      intro h
      refine zb_if_ok (zb_leP (zb_rdK rfl) (rfl : (40 : Int32) = nI 40)) h ?_ ?_
      · intro h
        refine zb_let_k h (zb_addP rfl (rfl : (1 : Int32) = nI 1)) ?_
        intro h
        exact ih rfl h
      · intro h
        refine ⟨70, ?_⟩
        exact zr_X_shortenLogs_20 hc hk (fun h => ih rfl h) rfl _ rfl h
noncomputable def zq_pX_shortenLogs (kk : Nat → Nat → Nat → Nat → Nat → Nat → Nat → Nat → Nat → Nat → Nat → Nat → Nat → Nat → Nat → Nat → Nat → Nat → Nat → Nat → Nat → Nat → Nat → Nat → Nat → Nat → Nat → Nat → Nat → Nat → Nat → Nat → Bool) (f0_openSet f0_state f0_votes f0_heard f0_names f0_name f0_slot f0_parts f0_trouble f0_troubled f0_happened f0_commitCount f0_first f0_waiting f0_sent f0_lostCount a1 a2 a3 a4 a5 a6 a7 a8 a9 a10 a11 a12 a13 a14 a15 a16 : Nat) : Bool := (zq_X_shortenLogs_2 kk f0_openSet f0_state f0_votes f0_heard f0_names f0_name f0_slot f0_parts f0_trouble f0_troubled f0_happened f0_commitCount f0_first f0_waiting f0_sent f0_lostCount 70 0 a1 a2 a3 a4 a5 a6 a7 a8 a9 a10 a11 a12 a13 a14 a15 a16)
theorem zr_pX_shortenLogs {c : Nat} (hc : c ≤ 1023) {post : St2 → Prop} {kk : Nat → Nat → Nat → Nat → Nat → Nat → Nat → Nat → Nat → Nat → Nat → Nat → Nat → Nat → Nat → Nat → Nat → Nat → Nat → Nat → Nat → Nat → Nat → Nat → Nat → Nat → Nat → Nat → Nat → Nat → Nat → Nat → Bool} {f0_openSet f0_state f0_votes f0_heard f0_names f0_name f0_slot f0_parts f0_trouble f0_troubled f0_happened f0_commitCount f0_first f0_waiting f0_sent f0_lostCount a1 a2 a3 a4 a5 a6 a7 a8 a9 a10 a11 a12 a13 a14 a15 a16 : Nat} (h : zq_pX_shortenLogs kk f0_openSet f0_state f0_votes f0_heard f0_names f0_name f0_slot f0_parts f0_trouble f0_troubled f0_happened f0_commitCount f0_first f0_waiting f0_sent f0_lostCount a1 a2 a3 a4 a5 a6 a7 a8 a9 a10 a11 a12 a13 a14 a15 a16 = true) (hk : ∀ {f1 f2 f3 f4 f5 f6 f7 f8 f9 f10 f11 f12 f13 f14 f15 f16 b1 b2 b3 b4 b5 b6 b7 b8 b9 b10 b11 b12 b13 b14 b15 b16 : Nat}, kk f1 f2 f3 f4 f5 f6 f7 f8 f9 f10 f11 f12 f13 f14 f15 f16 b1 b2 b3 b4 b5 b6 b7 b8 b9 b10 b11 b12 b13 b14 b15 b16 = true → post ((nI f1), (nI f2), (nI f3), (nI f4), (nI f5), (nI f6), (nI f7), (nI f8), (nI f9), (nI f10), (nI f11), (nI f12), (nI f13), (nI f14), (nI f15), (nI f16), (zb_va c b1), (zb_ka b2), (zb_ka b3), (zb_ka b4), (zb_ka b5), (zb_va c b6), (zb_va c b7), (zb_ka b8), (zb_ka b9), (zb_va c b10), (zb_ka b11), (zb_ka b12), (zb_ka b13), (zb_ka b14), (zb_ka b15), (zb_ka b16))) : wpX_shortenLogs post ((nI f0_openSet), (nI f0_state), (nI f0_votes), (nI f0_heard), (nI f0_names), (nI f0_name), (nI f0_slot), (nI f0_parts), (nI f0_trouble), (nI f0_troubled), (nI f0_happened), (nI f0_commitCount), (nI f0_first), (nI f0_waiting), (nI f0_sent), (nI f0_lostCount), (zb_va c a1), (zb_ka a2), (zb_ka a3), (zb_ka a4), (zb_ka a5), (zb_va c a6), (zb_va c a7), (zb_ka a8), (zb_ka a9), (zb_va c a10), (zb_ka a11), (zb_ka a12), (zb_ka a13), (zb_ka a14), (zb_ka a15), (zb_ka a16)) := by
  unfold zq_pX_shortenLogs at h
  unfold wpX_shortenLogs
  refine ⟨70, ?_⟩
  exact zr_X_shortenLogs_2 hc hk _ (rfl : (0 : Int32) = nI 0) h
noncomputable def zq_X_isOver_16 (kk : Nat → Bool) (f0_openSet f0_state f0_votes f0_heard f0_names f0_name f0_slot f0_parts f0_trouble f0_troubled f0_happened f0_commitCount f0_first f0_waiting f0_sent f0_lostCount a1 a2 a3 a4 a5 a6 a7 a8 a9 a10 a11 a12 a13 a14 a15 a16 : Nat) : Bool := (zb_if (zb_eq f0_heard f0_parts) (kk 1) (kk 0))
theorem zr_X_isOver_16 {c : Nat} (hc : c ≤ 1023) {post : Int32 → Prop} {kk : Nat → Bool} {f0_openSet f0_state f0_votes f0_heard f0_names f0_name f0_slot f0_parts f0_trouble f0_troubled f0_happened f0_commitCount f0_first f0_waiting f0_sent f0_lostCount a1 a2 a3 a4 a5 a6 a7 a8 a9 a10 a11 a12 a13 a14 a15 a16 : Nat} (h : zq_X_isOver_16 kk f0_openSet f0_state f0_votes f0_heard f0_names f0_name f0_slot f0_parts f0_trouble f0_troubled f0_happened f0_commitCount f0_first f0_waiting f0_sent f0_lostCount a1 a2 a3 a4 a5 a6 a7 a8 a9 a10 a11 a12 a13 a14 a15 a16 = true) (hk : ∀ {r_ : Nat} {R_ : Int32}, R_ = nI r_ → kk r_  = true → post R_ ) : wX_isOver_16 post (nI f0_openSet) (nI f0_state) (nI f0_votes) (nI f0_heard) (nI f0_names) (nI f0_name) (nI f0_slot) (nI f0_parts) (nI f0_trouble) (nI f0_troubled) (nI f0_happened) (nI f0_commitCount) (nI f0_first) (nI f0_waiting) (nI f0_sent) (nI f0_lostCount) (zb_va c a1) (zb_ka a2) (zb_ka a3) (zb_ka a4) (zb_ka a5) (zb_va c a6) (zb_va c a7) (zb_ka a8) (zb_ka a9) (zb_va c a10) (zb_ka a11) (zb_ka a12) (zb_ka a13) (zb_ka a14) (zb_ka a15) (zb_ka a16) := by
  unfold zq_X_isOver_16 at h
  unfold wX_isOver_16
  refine zb_if_ok (zb_eqP rfl rfl) h ?_ ?_
  · intro h
    exact hk (rfl : (1 : Int32) = nI 1) h
  · intro h
    exact hk (rfl : (0 : Int32) = nI 0) h
noncomputable def zq_pX_isOver (kk : Nat → Bool) (f0_openSet f0_state f0_votes f0_heard f0_names f0_name f0_slot f0_parts f0_trouble f0_troubled f0_happened f0_commitCount f0_first f0_waiting f0_sent f0_lostCount a1 a2 a3 a4 a5 a6 a7 a8 a9 a10 a11 a12 a13 a14 a15 a16 : Nat) : Bool := (zb_if (zb_eq f0_state 2) (zq_X_isOver_16 kk f0_openSet f0_state f0_votes f0_heard f0_names f0_name f0_slot f0_parts f0_trouble f0_troubled f0_happened f0_commitCount f0_first f0_waiting f0_sent f0_lostCount a1 a2 a3 a4 a5 a6 a7 a8 a9 a10 a11 a12 a13 a14 a15 a16) (zb_if (zb_eq f0_state 3) (zq_X_isOver_16 kk f0_openSet f0_state f0_votes f0_heard f0_names f0_name f0_slot f0_parts f0_trouble f0_troubled f0_happened f0_commitCount f0_first f0_waiting f0_sent f0_lostCount a1 a2 a3 a4 a5 a6 a7 a8 a9 a10 a11 a12 a13 a14 a15 a16) (kk 0)))
theorem zr_pX_isOver {c : Nat} (hc : c ≤ 1023) {post : Int32 → Prop} {kk : Nat → Bool} {f0_openSet f0_state f0_votes f0_heard f0_names f0_name f0_slot f0_parts f0_trouble f0_troubled f0_happened f0_commitCount f0_first f0_waiting f0_sent f0_lostCount a1 a2 a3 a4 a5 a6 a7 a8 a9 a10 a11 a12 a13 a14 a15 a16 : Nat} (h : zq_pX_isOver kk f0_openSet f0_state f0_votes f0_heard f0_names f0_name f0_slot f0_parts f0_trouble f0_troubled f0_happened f0_commitCount f0_first f0_waiting f0_sent f0_lostCount a1 a2 a3 a4 a5 a6 a7 a8 a9 a10 a11 a12 a13 a14 a15 a16 = true) (hk : ∀ {r_ : Nat} {R_ : Int32}, R_ = nI r_ → kk r_  = true → post R_ ) : wpX_isOver post ((nI f0_openSet), (nI f0_state), (nI f0_votes), (nI f0_heard), (nI f0_names), (nI f0_name), (nI f0_slot), (nI f0_parts), (nI f0_trouble), (nI f0_troubled), (nI f0_happened), (nI f0_commitCount), (nI f0_first), (nI f0_waiting), (nI f0_sent), (nI f0_lostCount), (zb_va c a1), (zb_ka a2), (zb_ka a3), (zb_ka a4), (zb_ka a5), (zb_va c a6), (zb_va c a7), (zb_ka a8), (zb_ka a9), (zb_va c a10), (zb_ka a11), (zb_ka a12), (zb_ka a13), (zb_ka a14), (zb_ka a15), (zb_ka a16)) := by
  unfold zq_pX_isOver at h
  unfold wpX_isOver
  refine zb_if_ok (zb_eqP rfl (rfl : (2 : Int32) = nI 2)) h ?_ ?_
  · intro h
    exact zr_X_isOver_16 hc h hk
  · intro h
    refine zb_if_ok (zb_eqP rfl (rfl : (3 : Int32) = nI 3)) h ?_ ?_
    · intro h
      exact zr_X_isOver_16 hc h hk
    · intro h
      exact hk (rfl : (0 : Int32) = nI 0) h
end
section
noncomputable def zq_X_hearRefuse_32 (kk : Nat → Nat → Nat → Nat → Nat → Nat → Nat → Nat → Nat → Nat → Nat → Nat → Nat → Nat → Nat → Nat → Nat → Nat → Nat → Nat → Nat → Nat → Nat → Nat → Nat → Nat → Nat → Nat → Nat → Nat → Nat → Nat → Bool) (x1 f0_openSet f0_state f0_votes f0_heard f0_names f0_name f0_slot f0_parts f0_trouble f0_troubled f0_happened f0_commitCount f0_first f0_waiting f0_sent f0_lostCount a1 a2 a3 a4 a5 a6 a7 a8 a9 a10 a11 a12 a13 a14 a15 a16 : Nat) : Bool := (zq_pX_releaseOn (fun f0_openSet_4 f0_state_5 f0_votes_6 f0_heard_7 f0_names_8 f0_name_9 f0_slot_10 f0_parts_11 f0_trouble_12 f0_troubled_13 f0_happened_14 f0_commitCount_15 f0_first_16 f0_waiting_17 f0_sent_18 f0_lostCount_19 am381_22 am382_25 am383_28 am384_31 am385_34 am386_37 am387_40 am388_43 am389_46 am3810_49 am3811_52 am3812_55 am3813_58 am3814_61 am3815_64 am3816_67 => (zq_pX_send (fun f0_openSet_69 f0_state_70 f0_votes_71 f0_heard_72 f0_names_73 f0_name_74 f0_slot_75 f0_parts_76 f0_trouble_77 f0_troubled_78 f0_happened_79 f0_commitCount_80 f0_first_81 f0_waiting_82 f0_sent_83 f0_lostCount_84 am461_87 am462_90 am463_93 am464_96 am465_99 am466_102 am467_105 am468_108 am469_111 am4610_114 am4611_117 am4612_120 am4613_123 am4614_126 am4615_129 am4616_132 => (kk f0_openSet_69 f0_state_70 f0_votes_71 f0_heard_72 f0_names_73 f0_name_74 f0_slot_75 f0_parts_76 f0_trouble_77 f0_troubled_78 f0_happened_79 f0_commitCount_80 f0_first_81 f0_waiting_82 f0_sent_83 f0_lostCount_84 am461_87 am462_90 am463_93 am464_96 am465_99 am466_102 am467_105 am468_108 am469_111 am4610_114 am4611_117 am4612_120 am4613_123 am4614_126 am4615_129 am4616_132)) f0_openSet_4 f0_state_5 f0_votes_6 f0_heard_7 f0_names_8 f0_name_9 f0_slot_10 f0_parts_11 f0_trouble_12 f0_troubled_13 f0_happened_14 f0_commitCount_15 f0_first_16 f0_waiting_17 f0_sent_18 f0_lostCount_19 am381_22 am382_25 am383_28 am384_31 am385_34 am386_37 am387_40 am388_43 am389_46 am3810_49 am3811_52 am3812_55 am3813_58 am3814_61 am3815_64 am3816_67 6 x1 3)) f0_openSet f0_state f0_votes f0_heard f0_names f0_name f0_slot f0_parts f0_trouble f0_troubled f0_happened f0_commitCount f0_first f0_waiting f0_sent f0_lostCount a1 a2 a3 a4 a5 a6 a7 a8 a9 a10 a11 a12 a13 a14 a15 a16 f0_slot x1)
theorem zr_X_hearRefuse_32 {c : Nat} (hc : c ≤ 1023) {post : St2 → Prop} {kk : Nat → Nat → Nat → Nat → Nat → Nat → Nat → Nat → Nat → Nat → Nat → Nat → Nat → Nat → Nat → Nat → Nat → Nat → Nat → Nat → Nat → Nat → Nat → Nat → Nat → Nat → Nat → Nat → Nat → Nat → Nat → Nat → Bool} {x1 f0_openSet f0_state f0_votes f0_heard f0_names f0_name f0_slot f0_parts f0_trouble f0_troubled f0_happened f0_commitCount f0_first f0_waiting f0_sent f0_lostCount a1 a2 a3 a4 a5 a6 a7 a8 a9 a10 a11 a12 a13 a14 a15 a16 : Nat} {X_x1 : Int32} (e_x1 : X_x1 = nI x1) (h : zq_X_hearRefuse_32 kk x1 f0_openSet f0_state f0_votes f0_heard f0_names f0_name f0_slot f0_parts f0_trouble f0_troubled f0_happened f0_commitCount f0_first f0_waiting f0_sent f0_lostCount a1 a2 a3 a4 a5 a6 a7 a8 a9 a10 a11 a12 a13 a14 a15 a16 = true) (hk : ∀ {f1 f2 f3 f4 f5 f6 f7 f8 f9 f10 f11 f12 f13 f14 f15 f16 b1 b2 b3 b4 b5 b6 b7 b8 b9 b10 b11 b12 b13 b14 b15 b16 : Nat}, kk f1 f2 f3 f4 f5 f6 f7 f8 f9 f10 f11 f12 f13 f14 f15 f16 b1 b2 b3 b4 b5 b6 b7 b8 b9 b10 b11 b12 b13 b14 b15 b16 = true → post ((nI f1), (nI f2), (nI f3), (nI f4), (nI f5), (nI f6), (nI f7), (nI f8), (nI f9), (nI f10), (nI f11), (nI f12), (nI f13), (nI f14), (nI f15), (nI f16), (zb_va c b1), (zb_ka b2), (zb_ka b3), (zb_ka b4), (zb_ka b5), (zb_va c b6), (zb_va c b7), (zb_ka b8), (zb_ka b9), (zb_va c b10), (zb_ka b11), (zb_ka b12), (zb_ka b13), (zb_ka b14), (zb_ka b15), (zb_ka b16))) : wX_hearRefuse_32 post X_x1 (nI f0_openSet) (nI f0_state) (nI f0_votes) (nI f0_heard) (nI f0_names) (nI f0_name) (nI f0_slot) (nI f0_parts) (nI f0_trouble) (nI f0_troubled) (nI f0_happened) (nI f0_commitCount) (nI f0_first) (nI f0_waiting) (nI f0_sent) (nI f0_lostCount) (zb_va c a1) (zb_ka a2) (zb_ka a3) (zb_ka a4) (zb_ka a5) (zb_va c a6) (zb_va c a7) (zb_ka a8) (zb_ka a9) (zb_va c a10) (zb_ka a11) (zb_ka a12) (zb_ka a13) (zb_ka a14) (zb_ka a15) (zb_ka a16) := by
  subst e_x1
  unfold zq_X_hearRefuse_32 at h
  unfold wX_hearRefuse_32
  refine zr_pX_releaseOn hc rfl rfl h ?_
  intro f0_openSet_4 f0_state_5 f0_votes_6 f0_heard_7 f0_names_8 f0_name_9 f0_slot_10 f0_parts_11 f0_trouble_12 f0_troubled_13 f0_happened_14 f0_commitCount_15 f0_first_16 f0_waiting_17 f0_sent_18 f0_lostCount_19 am381_22 am382_25 am383_28 am384_31 am385_34 am386_37 am387_40 am388_43 am389_46 am3810_49 am3811_52 am3812_55 am3813_58 am3814_61 am3815_64 am3816_67 h
  refine zr_pX_send hc (rfl : (6 : Int32) = nI 6) rfl (rfl : (3 : Int32) = nI 3) h ?_
  intro f0_openSet_69 f0_state_70 f0_votes_71 f0_heard_72 f0_names_73 f0_name_74 f0_slot_75 f0_parts_76 f0_trouble_77 f0_troubled_78 f0_happened_79 f0_commitCount_80 f0_first_81 f0_waiting_82 f0_sent_83 f0_lostCount_84 am461_87 am462_90 am463_93 am464_96 am465_99 am466_102 am467_105 am468_108 am469_111 am4610_114 am4611_117 am4612_120 am4613_123 am4614_126 am4615_129 am4616_132 h
  exact hk h
noncomputable def zq_pX_hearRefuse (kk : Nat → Nat → Nat → Nat → Nat → Nat → Nat → Nat → Nat → Nat → Nat → Nat → Nat → Nat → Nat → Nat → Nat → Nat → Nat → Nat → Nat → Nat → Nat → Nat → Nat → Nat → Nat → Nat → Nat → Nat → Nat → Nat → Bool) (f0_openSet f0_state f0_votes f0_heard f0_names f0_name f0_slot f0_parts f0_trouble f0_troubled f0_happened f0_commitCount f0_first f0_waiting f0_sent f0_lostCount a1 a2 a3 a4 a5 a6 a7 a8 a9 a10 a11 a12 a13 a14 a15 a16 p0 : Nat) : Bool := (zb_in (Nat.add (Nat.mul f0_slot 3) p0) 12 (zb_if (zb_eq (zb_rd a11 (Nat.add (Nat.mul f0_slot 3) p0)) f0_name) (zq_pX_log (fun f0_openSet_134 f0_state_135 f0_votes_136 f0_heard_137 f0_names_138 f0_name_139 f0_slot_140 f0_parts_141 f0_trouble_142 f0_troubled_143 f0_happened_144 f0_commitCount_145 f0_first_146 f0_waiting_147 f0_sent_148 f0_lostCount_149 am291_152 am292_155 am293_158 am294_161 am295_164 am296_167 am297_170 am298_173 am299_176 am2910_179 am2911_182 am2912_185 am2913_188 am2914_191 am2915_194 am2916_197 => (zq_X_hearRefuse_32 kk p0 f0_openSet_134 f0_state_135 f0_votes_136 f0_heard_137 f0_names_138 f0_name_139 f0_slot_140 f0_parts_141 f0_trouble_142 f0_troubled_143 f0_happened_144 f0_commitCount_145 f0_first_146 f0_waiting_147 f0_sent_148 f0_lostCount_149 am291_152 am292_155 am293_158 am294_161 am295_164 am296_167 am297_170 am298_173 am299_176 am2910_179 am2911_182 am2912_185 am2913_188 am2914_191 am2915_194 am2916_197)) f0_openSet f0_state f0_votes f0_heard f0_names f0_name f0_slot f0_parts f0_trouble f0_troubled f0_happened f0_commitCount f0_first f0_waiting f0_sent f0_lostCount a1 a2 a3 a4 a5 a6 a7 a8 a9 a10 a11 a12 a13 a14 a15 a16 p0 4 f0_name 0 (zb_kv 0)) (zq_X_hearRefuse_32 kk p0 f0_openSet f0_state f0_votes f0_heard f0_names f0_name f0_slot f0_parts f0_trouble f0_troubled f0_happened f0_commitCount f0_first f0_waiting f0_sent f0_lostCount a1 a2 a3 a4 a5 a6 a7 a8 a9 a10 a11 a12 a13 a14 a15 a16)))
theorem zr_pX_hearRefuse {c : Nat} (hc : c ≤ 1023) {post : St2 → Prop} {kk : Nat → Nat → Nat → Nat → Nat → Nat → Nat → Nat → Nat → Nat → Nat → Nat → Nat → Nat → Nat → Nat → Nat → Nat → Nat → Nat → Nat → Nat → Nat → Nat → Nat → Nat → Nat → Nat → Nat → Nat → Nat → Nat → Bool} {f0_openSet f0_state f0_votes f0_heard f0_names f0_name f0_slot f0_parts f0_trouble f0_troubled f0_happened f0_commitCount f0_first f0_waiting f0_sent f0_lostCount a1 a2 a3 a4 a5 a6 a7 a8 a9 a10 a11 a12 a13 a14 a15 a16 p0 : Nat} {X_p0 : Int32} (e_p0 : X_p0 = nI p0) (h : zq_pX_hearRefuse kk f0_openSet f0_state f0_votes f0_heard f0_names f0_name f0_slot f0_parts f0_trouble f0_troubled f0_happened f0_commitCount f0_first f0_waiting f0_sent f0_lostCount a1 a2 a3 a4 a5 a6 a7 a8 a9 a10 a11 a12 a13 a14 a15 a16 p0 = true) (hk : ∀ {f1 f2 f3 f4 f5 f6 f7 f8 f9 f10 f11 f12 f13 f14 f15 f16 b1 b2 b3 b4 b5 b6 b7 b8 b9 b10 b11 b12 b13 b14 b15 b16 : Nat}, kk f1 f2 f3 f4 f5 f6 f7 f8 f9 f10 f11 f12 f13 f14 f15 f16 b1 b2 b3 b4 b5 b6 b7 b8 b9 b10 b11 b12 b13 b14 b15 b16 = true → post ((nI f1), (nI f2), (nI f3), (nI f4), (nI f5), (nI f6), (nI f7), (nI f8), (nI f9), (nI f10), (nI f11), (nI f12), (nI f13), (nI f14), (nI f15), (nI f16), (zb_va c b1), (zb_ka b2), (zb_ka b3), (zb_ka b4), (zb_ka b5), (zb_va c b6), (zb_va c b7), (zb_ka b8), (zb_ka b9), (zb_va c b10), (zb_ka b11), (zb_ka b12), (zb_ka b13), (zb_ka b14), (zb_ka b15), (zb_ka b16))) : wpX_hearRefuse post ((nI f0_openSet), (nI f0_state), (nI f0_votes), (nI f0_heard), (nI f0_names), (nI f0_name), (nI f0_slot), (nI f0_parts), (nI f0_trouble), (nI f0_troubled), (nI f0_happened), (nI f0_commitCount), (nI f0_first), (nI f0_waiting), (nI f0_sent), (nI f0_lostCount), (zb_va c a1), (zb_ka a2), (zb_ka a3), (zb_ka a4), (zb_ka a5), (zb_va c a6), (zb_va c a7), (zb_ka a8), (zb_ka a9), (zb_va c a10), (zb_ka a11), (zb_ka a12), (zb_ka a13), (zb_ka a14), (zb_ka a15), (zb_ka a16)) X_p0 := by
  subst e_p0
  unfold zq_pX_hearRefuse at h
  unfold wpX_hearRefuse
  refine zb_in_ok (zb_addP (zb_mulP rfl (rfl : (3 : Int32) = nI 3)) rfl) (by decide) h ?_
  intro h
  refine zb_if_ok (zb_eqP (zb_rdK (zb_addP (zb_mulP rfl (rfl : (3 : Int32) = nI 3)) rfl)) rfl) h ?_ ?_
  · intro h
    refine zr_pX_log hc rfl (rfl : (4 : Int32) = nI 4) rfl (rfl : (0 : Int32) = nI 0) (zb_kvP (rfl : (0 : Int32) = nI 0)) h ?_
    intro f0_openSet_134 f0_state_135 f0_votes_136 f0_heard_137 f0_names_138 f0_name_139 f0_slot_140 f0_parts_141 f0_trouble_142 f0_troubled_143 f0_happened_144 f0_commitCount_145 f0_first_146 f0_waiting_147 f0_sent_148 f0_lostCount_149 am291_152 am292_155 am293_158 am294_161 am295_164 am296_167 am297_170 am298_173 am299_176 am2910_179 am2911_182 am2912_185 am2913_188 am2914_191 am2915_194 am2916_197 h
    exact zr_X_hearRefuse_32 hc rfl h hk
  · intro h
    exact zr_X_hearRefuse_32 hc rfl h hk
noncomputable def zq_X_hearCommit_66 (kk : Nat → Nat → Nat → Nat → Nat → Nat → Nat → Nat → Nat → Nat → Nat → Nat → Nat → Nat → Nat → Nat → Nat → Nat → Nat → Nat → Nat → Nat → Nat → Nat → Nat → Nat → Nat → Nat → Nat → Nat → Nat → Nat → Bool) (x1 f0_openSet f0_state f0_votes f0_heard f0_names f0_name f0_slot f0_parts f0_trouble f0_troubled f0_happened f0_commitCount f0_first f0_waiting f0_sent f0_lostCount am31 am32 am33 am34 am35 am36 am37 am38 am39 am310 am311 am312 am313 am314 am315 am316 : Nat) : Bool := (zq_pX_strikes (fun r_69 f0_openSet_70 f0_state_71 f0_votes_72 f0_heard_73 f0_names_74 f0_name_75 f0_slot_76 f0_parts_77 f0_trouble_78 f0_troubled_79 f0_happened_80 f0_commitCount_81 f0_first_82 f0_waiting_83 f0_sent_84 f0_lostCount_85 am691_88 am692_91 am693_94 am694_97 am695_100 am696_103 am697_106 am698_109 am699_112 am6910_115 am6911_118 am6912_121 am6913_124 am6914_127 am6915_130 am6916_133 => (zb_if (zb_eq r_69 0) (zq_pX_send (fun f0_openSet_136 f0_state_137 f0_votes_138 f0_heard_139 f0_names_140 f0_name_141 f0_slot_142 f0_parts_143 f0_trouble_144 f0_troubled_145 f0_happened_146 f0_commitCount_147 f0_first_148 f0_waiting_149 f0_sent_150 f0_lostCount_151 am871_154 am872_157 am873_160 am874_163 am875_166 am876_169 am877_172 am878_175 am879_178 am8710_181 am8711_184 am8712_187 am8713_190 am8714_193 am8715_196 am8716_199 => (kk f0_openSet_136 f0_state_137 f0_votes_138 f0_heard_139 f0_names_140 f0_name_141 f0_slot_142 f0_parts_143 f0_trouble_144 f0_troubled_145 f0_happened_146 f0_commitCount_147 f0_first_148 f0_waiting_149 f0_sent_150 f0_lostCount_151 am871_154 am872_157 am873_160 am874_163 am875_166 am876_169 am877_172 am878_175 am879_178 am8710_181 am8711_184 am8712_187 am8713_190 am8714_193 am8715_196 am8716_199)) f0_openSet_70 f0_state_71 f0_votes_72 f0_heard_73 f0_names_74 f0_name_75 f0_slot_76 f0_parts_77 f0_trouble_78 f0_troubled_79 f0_happened_80 f0_commitCount_81 f0_first_82 f0_waiting_83 f0_sent_84 f0_lostCount_85 am691_88 am692_91 am693_94 am694_97 am695_100 am696_103 am697_106 am698_109 am699_112 am6910_115 am6911_118 am6912_121 am6913_124 am6914_127 am6915_130 am6916_133 6 x1 3) (zq_pX_breakDown (fun r_200 f0_openSet_201 f0_state_202 f0_votes_203 f0_heard_204 f0_names_205 f0_name_206 f0_slot_207 f0_parts_208 f0_trouble_209 f0_troubled_210 f0_happened_211 f0_commitCount_212 f0_first_213 f0_waiting_214 f0_sent_215 f0_lostCount_216 am771_219 am772_222 am773_225 am774_228 am775_231 am776_234 am777_237 am778_240 am779_243 am7710_246 am7711_249 am7712_252 am7713_255 am7714_258 am7715_261 am7716_264 => (kk f0_openSet_201 f0_state_202 f0_votes_203 f0_heard_204 f0_names_205 f0_name_206 f0_slot_207 f0_parts_208 f0_trouble_209 f0_troubled_210 f0_happened_211 f0_commitCount_212 f0_first_213 f0_waiting_214 f0_sent_215 f0_lostCount_216 am771_219 am772_222 am773_225 am774_228 am775_231 am776_234 am777_237 am778_240 am779_243 am7710_246 am7711_249 am7712_252 am7713_255 am7714_258 am7715_261 am7716_264)) f0_openSet_70 f0_state_71 f0_votes_72 f0_heard_73 f0_names_74 f0_name_75 f0_slot_76 f0_parts_77 f0_trouble_78 f0_troubled_79 f0_happened_80 f0_commitCount_81 f0_first_82 f0_waiting_83 f0_sent_84 f0_lostCount_85 am691_88 am692_91 am693_94 am694_97 am695_100 am696_103 am697_106 am698_109 am699_112 am6910_115 am6911_118 am6912_121 am6913_124 am6914_127 am6915_130 am6916_133 x1))) f0_openSet f0_state f0_votes f0_heard f0_names f0_name f0_slot f0_parts f0_trouble f0_troubled f0_happened f0_commitCount f0_first f0_waiting f0_sent f0_lostCount am31 am32 am33 am34 am35 am36 am37 am38 am39 am310 am311 am312 am313 am314 am315 am316 5 x1)
theorem zr_X_hearCommit_66 {c : Nat} (hc : c ≤ 1023) {post : St2 → Prop} {kk : Nat → Nat → Nat → Nat → Nat → Nat → Nat → Nat → Nat → Nat → Nat → Nat → Nat → Nat → Nat → Nat → Nat → Nat → Nat → Nat → Nat → Nat → Nat → Nat → Nat → Nat → Nat → Nat → Nat → Nat → Nat → Nat → Bool} {x1 f0_openSet f0_state f0_votes f0_heard f0_names f0_name f0_slot f0_parts f0_trouble f0_troubled f0_happened f0_commitCount f0_first f0_waiting f0_sent f0_lostCount am31 am32 am33 am34 am35 am36 am37 am38 am39 am310 am311 am312 am313 am314 am315 am316 : Nat} {X_x1 : Int32} (e_x1 : X_x1 = nI x1) (h : zq_X_hearCommit_66 kk x1 f0_openSet f0_state f0_votes f0_heard f0_names f0_name f0_slot f0_parts f0_trouble f0_troubled f0_happened f0_commitCount f0_first f0_waiting f0_sent f0_lostCount am31 am32 am33 am34 am35 am36 am37 am38 am39 am310 am311 am312 am313 am314 am315 am316 = true) (hk : ∀ {f1 f2 f3 f4 f5 f6 f7 f8 f9 f10 f11 f12 f13 f14 f15 f16 b1 b2 b3 b4 b5 b6 b7 b8 b9 b10 b11 b12 b13 b14 b15 b16 : Nat}, kk f1 f2 f3 f4 f5 f6 f7 f8 f9 f10 f11 f12 f13 f14 f15 f16 b1 b2 b3 b4 b5 b6 b7 b8 b9 b10 b11 b12 b13 b14 b15 b16 = true → post ((nI f1), (nI f2), (nI f3), (nI f4), (nI f5), (nI f6), (nI f7), (nI f8), (nI f9), (nI f10), (nI f11), (nI f12), (nI f13), (nI f14), (nI f15), (nI f16), (zb_va c b1), (zb_ka b2), (zb_ka b3), (zb_ka b4), (zb_ka b5), (zb_va c b6), (zb_va c b7), (zb_ka b8), (zb_ka b9), (zb_va c b10), (zb_ka b11), (zb_ka b12), (zb_ka b13), (zb_ka b14), (zb_ka b15), (zb_ka b16))) : wX_hearCommit_66 post X_x1 (nI f0_openSet) (nI f0_state) (nI f0_votes) (nI f0_heard) (nI f0_names) (nI f0_name) (nI f0_slot) (nI f0_parts) (nI f0_trouble) (nI f0_troubled) (nI f0_happened) (nI f0_commitCount) (nI f0_first) (nI f0_waiting) (nI f0_sent) (nI f0_lostCount) (zb_va c am31) (zb_ka am32) (zb_ka am33) (zb_ka am34) (zb_ka am35) (zb_va c am36) (zb_va c am37) (zb_ka am38) (zb_ka am39) (zb_va c am310) (zb_ka am311) (zb_ka am312) (zb_ka am313) (zb_ka am314) (zb_ka am315) (zb_ka am316) := by
  subst e_x1
  unfold zq_X_hearCommit_66 at h
  unfold wX_hearCommit_66
  refine zr_pX_strikes hc (rfl : (5 : Int32) = nI 5) rfl h ?_
  intro r_69 R_ eR_ f0_openSet_70 f0_state_71 f0_votes_72 f0_heard_73 f0_names_74 f0_name_75 f0_slot_76 f0_parts_77 f0_trouble_78 f0_troubled_79 f0_happened_80 f0_commitCount_81 f0_first_82 f0_waiting_83 f0_sent_84 f0_lostCount_85 am691_88 am692_91 am693_94 am694_97 am695_100 am696_103 am697_106 am698_109 am699_112 am6910_115 am6911_118 am6912_121 am6913_124 am6914_127 am6915_130 am6916_133 h
  subst eR_
  refine zb_if_ok (zb_eqP rfl (rfl : (0 : Int32) = nI 0)) h ?_ ?_
  · intro h
    refine zr_pX_send hc (rfl : (6 : Int32) = nI 6) rfl (rfl : (3 : Int32) = nI 3) h ?_
    intro f0_openSet_136 f0_state_137 f0_votes_138 f0_heard_139 f0_names_140 f0_name_141 f0_slot_142 f0_parts_143 f0_trouble_144 f0_troubled_145 f0_happened_146 f0_commitCount_147 f0_first_148 f0_waiting_149 f0_sent_150 f0_lostCount_151 am871_154 am872_157 am873_160 am874_163 am875_166 am876_169 am877_172 am878_175 am879_178 am8710_181 am8711_184 am8712_187 am8713_190 am8714_193 am8715_196 am8716_199 h
    exact hk h
  · intro h
    refine zr_pX_breakDown hc rfl h ?_
    intro r_200 R_ eR_ f0_openSet_201 f0_state_202 f0_votes_203 f0_heard_204 f0_names_205 f0_name_206 f0_slot_207 f0_parts_208 f0_trouble_209 f0_troubled_210 f0_happened_211 f0_commitCount_212 f0_first_213 f0_waiting_214 f0_sent_215 f0_lostCount_216 am771_219 am772_222 am773_225 am774_228 am775_231 am776_234 am777_237 am778_240 am779_243 am7710_246 am7711_249 am7712_252 am7713_255 am7714_258 am7715_261 am7716_264 h
    subst eR_
    exact hk h
noncomputable def zq_pX_hearCommit (kk : Nat → Nat → Nat → Nat → Nat → Nat → Nat → Nat → Nat → Nat → Nat → Nat → Nat → Nat → Nat → Nat → Nat → Nat → Nat → Nat → Nat → Nat → Nat → Nat → Nat → Nat → Nat → Nat → Nat → Nat → Nat → Nat → Bool) (f0_openSet f0_state f0_votes f0_heard f0_names f0_name f0_slot f0_parts f0_trouble f0_troubled f0_happened f0_commitCount f0_first f0_waiting f0_sent f0_lostCount a1 a2 a3 a4 a5 a6 a7 a8 a9 a10 a11 a12 a13 a14 a15 a16 p0 : Nat) : Bool := (zq_pX_strikes (fun r_1 f0_openSet_2 f0_state_3 f0_votes_4 f0_heard_5 f0_names_6 f0_name_7 f0_slot_8 f0_parts_9 f0_trouble_10 f0_troubled_11 f0_happened_12 f0_commitCount_13 f0_first_14 f0_waiting_15 f0_sent_16 f0_lostCount_17 am31_20 am32_23 am33_26 am34_29 am35_32 am36_35 am37_38 am38_41 am39_44 am310_47 am311_50 am312_53 am313_56 am314_59 am315_62 am316_65 => (zb_if (zb_eq r_1 0) (zb_in (Nat.add (Nat.mul f0_slot_8 3) p0) 12 (zb_if (zb_eq (zb_rd am311_50 (Nat.add (Nat.mul f0_slot_8 3) p0)) f0_name_7) (zq_pX_log (fun f0_openSet_266 f0_state_267 f0_votes_268 f0_heard_269 f0_names_270 f0_name_271 f0_slot_272 f0_parts_273 f0_trouble_274 f0_troubled_275 f0_happened_276 f0_commitCount_277 f0_first_278 f0_waiting_279 f0_sent_280 f0_lostCount_281 am451_284 am452_287 am453_290 am454_293 am455_296 am456_299 am457_302 am458_305 am459_308 am4510_311 am4511_314 am4512_317 am4513_320 am4514_323 am4515_326 am4516_329 => (zq_pX_applyLogged (fun f0_openSet_331 f0_state_332 f0_votes_333 f0_heard_334 f0_names_335 f0_name_336 f0_slot_337 f0_parts_338 f0_trouble_339 f0_troubled_340 f0_happened_341 f0_commitCount_342 f0_first_343 f0_waiting_344 f0_sent_345 f0_lostCount_346 am541_349 am542_352 am543_355 am544_358 am545_361 am546_364 am547_367 am548_370 am549_373 am5410_376 am5411_379 am5412_382 am5413_385 am5414_388 am5415_391 am5416_394 => (zq_pX_releaseOn (fun f0_openSet_396 f0_state_397 f0_votes_398 f0_heard_399 f0_names_400 f0_name_401 f0_slot_402 f0_parts_403 f0_trouble_404 f0_troubled_405 f0_happened_406 f0_commitCount_407 f0_first_408 f0_waiting_409 f0_sent_410 f0_lostCount_411 am631_414 am632_417 am633_420 am634_423 am635_426 am636_429 am637_432 am638_435 am639_438 am6310_441 am6311_444 am6312_447 am6313_450 am6314_453 am6315_456 am6316_459 => (zq_X_hearCommit_66 kk p0 f0_openSet_396 f0_state_397 f0_votes_398 f0_heard_399 f0_names_400 f0_name_401 f0_slot_402 f0_parts_403 f0_trouble_404 f0_troubled_405 f0_happened_406 f0_commitCount_407 f0_first_408 f0_waiting_409 f0_sent_410 f0_lostCount_411 am631_414 am632_417 am633_420 am634_423 am635_426 am636_429 am637_432 am638_435 am639_438 am6310_441 am6311_444 am6312_447 am6313_450 am6314_453 am6315_456 am6316_459)) f0_openSet_331 f0_state_332 f0_votes_333 f0_heard_334 f0_names_335 f0_name_336 f0_slot_337 f0_parts_338 f0_trouble_339 f0_troubled_340 f0_happened_341 f0_commitCount_342 f0_first_343 f0_waiting_344 f0_sent_345 f0_lostCount_346 am541_349 am542_352 am543_355 am544_358 am545_361 am546_364 am547_367 am548_370 am549_373 am5410_376 am5411_379 am5412_382 am5413_385 am5414_388 am5415_391 am5416_394 f0_slot_337 p0)) f0_openSet_266 f0_state_267 f0_votes_268 f0_heard_269 f0_names_270 f0_name_271 f0_slot_272 f0_parts_273 f0_trouble_274 f0_troubled_275 f0_happened_276 f0_commitCount_277 f0_first_278 f0_waiting_279 f0_sent_280 f0_lostCount_281 am451_284 am452_287 am453_290 am454_293 am455_296 am456_299 am457_302 am458_305 am459_308 am4510_311 am4511_314 am4512_317 am4513_320 am4514_323 am4515_326 am4516_329 p0 f0_name_271)) f0_openSet_2 f0_state_3 f0_votes_4 f0_heard_5 f0_names_6 f0_name_7 f0_slot_8 f0_parts_9 f0_trouble_10 f0_troubled_11 f0_happened_12 f0_commitCount_13 f0_first_14 f0_waiting_15 f0_sent_16 f0_lostCount_17 am31_20 am32_23 am33_26 am34_29 am35_32 am36_35 am37_38 am38_41 am39_44 am310_47 am311_50 am312_53 am313_56 am314_59 am315_62 am316_65 p0 3 f0_name_7 0 (zb_kv 0)) (zq_X_hearCommit_66 kk p0 f0_openSet_2 f0_state_3 f0_votes_4 f0_heard_5 f0_names_6 f0_name_7 f0_slot_8 f0_parts_9 f0_trouble_10 f0_troubled_11 f0_happened_12 f0_commitCount_13 f0_first_14 f0_waiting_15 f0_sent_16 f0_lostCount_17 am31_20 am32_23 am33_26 am34_29 am35_32 am36_35 am37_38 am38_41 am39_44 am310_47 am311_50 am312_53 am313_56 am314_59 am315_62 am316_65))) (zq_pX_breakDown (fun r_460 f0_openSet_461 f0_state_462 f0_votes_463 f0_heard_464 f0_names_465 f0_name_466 f0_slot_467 f0_parts_468 f0_trouble_469 f0_troubled_470 f0_happened_471 f0_commitCount_472 f0_first_473 f0_waiting_474 f0_sent_475 f0_lostCount_476 am111_479 am112_482 am113_485 am114_488 am115_491 am116_494 am117_497 am118_500 am119_503 am1110_506 am1111_509 am1112_512 am1113_515 am1114_518 am1115_521 am1116_524 => (kk f0_openSet_461 f0_state_462 f0_votes_463 f0_heard_464 f0_names_465 f0_name_466 f0_slot_467 f0_parts_468 f0_trouble_469 f0_troubled_470 f0_happened_471 f0_commitCount_472 f0_first_473 f0_waiting_474 f0_sent_475 f0_lostCount_476 am111_479 am112_482 am113_485 am114_488 am115_491 am116_494 am117_497 am118_500 am119_503 am1110_506 am1111_509 am1112_512 am1113_515 am1114_518 am1115_521 am1116_524)) f0_openSet_2 f0_state_3 f0_votes_4 f0_heard_5 f0_names_6 f0_name_7 f0_slot_8 f0_parts_9 f0_trouble_10 f0_troubled_11 f0_happened_12 f0_commitCount_13 f0_first_14 f0_waiting_15 f0_sent_16 f0_lostCount_17 am31_20 am32_23 am33_26 am34_29 am35_32 am36_35 am37_38 am38_41 am39_44 am310_47 am311_50 am312_53 am313_56 am314_59 am315_62 am316_65 p0))) f0_openSet f0_state f0_votes f0_heard f0_names f0_name f0_slot f0_parts f0_trouble f0_troubled f0_happened f0_commitCount f0_first f0_waiting f0_sent f0_lostCount a1 a2 a3 a4 a5 a6 a7 a8 a9 a10 a11 a12 a13 a14 a15 a16 4 p0)
theorem zr_pX_hearCommit {c : Nat} (hc : c ≤ 1023) {post : St2 → Prop} {kk : Nat → Nat → Nat → Nat → Nat → Nat → Nat → Nat → Nat → Nat → Nat → Nat → Nat → Nat → Nat → Nat → Nat → Nat → Nat → Nat → Nat → Nat → Nat → Nat → Nat → Nat → Nat → Nat → Nat → Nat → Nat → Nat → Bool} {f0_openSet f0_state f0_votes f0_heard f0_names f0_name f0_slot f0_parts f0_trouble f0_troubled f0_happened f0_commitCount f0_first f0_waiting f0_sent f0_lostCount a1 a2 a3 a4 a5 a6 a7 a8 a9 a10 a11 a12 a13 a14 a15 a16 p0 : Nat} {X_p0 : Int32} (e_p0 : X_p0 = nI p0) (h : zq_pX_hearCommit kk f0_openSet f0_state f0_votes f0_heard f0_names f0_name f0_slot f0_parts f0_trouble f0_troubled f0_happened f0_commitCount f0_first f0_waiting f0_sent f0_lostCount a1 a2 a3 a4 a5 a6 a7 a8 a9 a10 a11 a12 a13 a14 a15 a16 p0 = true) (hk : ∀ {f1 f2 f3 f4 f5 f6 f7 f8 f9 f10 f11 f12 f13 f14 f15 f16 b1 b2 b3 b4 b5 b6 b7 b8 b9 b10 b11 b12 b13 b14 b15 b16 : Nat}, kk f1 f2 f3 f4 f5 f6 f7 f8 f9 f10 f11 f12 f13 f14 f15 f16 b1 b2 b3 b4 b5 b6 b7 b8 b9 b10 b11 b12 b13 b14 b15 b16 = true → post ((nI f1), (nI f2), (nI f3), (nI f4), (nI f5), (nI f6), (nI f7), (nI f8), (nI f9), (nI f10), (nI f11), (nI f12), (nI f13), (nI f14), (nI f15), (nI f16), (zb_va c b1), (zb_ka b2), (zb_ka b3), (zb_ka b4), (zb_ka b5), (zb_va c b6), (zb_va c b7), (zb_ka b8), (zb_ka b9), (zb_va c b10), (zb_ka b11), (zb_ka b12), (zb_ka b13), (zb_ka b14), (zb_ka b15), (zb_ka b16))) : wpX_hearCommit post ((nI f0_openSet), (nI f0_state), (nI f0_votes), (nI f0_heard), (nI f0_names), (nI f0_name), (nI f0_slot), (nI f0_parts), (nI f0_trouble), (nI f0_troubled), (nI f0_happened), (nI f0_commitCount), (nI f0_first), (nI f0_waiting), (nI f0_sent), (nI f0_lostCount), (zb_va c a1), (zb_ka a2), (zb_ka a3), (zb_ka a4), (zb_ka a5), (zb_va c a6), (zb_va c a7), (zb_ka a8), (zb_ka a9), (zb_va c a10), (zb_ka a11), (zb_ka a12), (zb_ka a13), (zb_ka a14), (zb_ka a15), (zb_ka a16)) X_p0 := by
  subst e_p0
  unfold zq_pX_hearCommit at h
  unfold wpX_hearCommit
  refine zr_pX_strikes hc (rfl : (4 : Int32) = nI 4) rfl h ?_
  intro r_1 R_ eR_ f0_openSet_2 f0_state_3 f0_votes_4 f0_heard_5 f0_names_6 f0_name_7 f0_slot_8 f0_parts_9 f0_trouble_10 f0_troubled_11 f0_happened_12 f0_commitCount_13 f0_first_14 f0_waiting_15 f0_sent_16 f0_lostCount_17 am31_20 am32_23 am33_26 am34_29 am35_32 am36_35 am37_38 am38_41 am39_44 am310_47 am311_50 am312_53 am313_56 am314_59 am315_62 am316_65 h
  subst eR_
  refine zb_if_ok (zb_eqP rfl (rfl : (0 : Int32) = nI 0)) h ?_ ?_
  · intro h
    refine zb_in_ok (zb_addP (zb_mulP rfl (rfl : (3 : Int32) = nI 3)) rfl) (by decide) h ?_
    intro h
    refine zb_if_ok (zb_eqP (zb_rdK (zb_addP (zb_mulP rfl (rfl : (3 : Int32) = nI 3)) rfl)) rfl) h ?_ ?_
    · intro h
      refine zr_pX_log hc rfl (rfl : (3 : Int32) = nI 3) rfl (rfl : (0 : Int32) = nI 0) (zb_kvP (rfl : (0 : Int32) = nI 0)) h ?_
      intro f0_openSet_266 f0_state_267 f0_votes_268 f0_heard_269 f0_names_270 f0_name_271 f0_slot_272 f0_parts_273 f0_trouble_274 f0_troubled_275 f0_happened_276 f0_commitCount_277 f0_first_278 f0_waiting_279 f0_sent_280 f0_lostCount_281 am451_284 am452_287 am453_290 am454_293 am455_296 am456_299 am457_302 am458_305 am459_308 am4510_311 am4511_314 am4512_317 am4513_320 am4514_323 am4515_326 am4516_329 h
      refine zr_pX_applyLogged hc rfl rfl h ?_
      intro f0_openSet_331 f0_state_332 f0_votes_333 f0_heard_334 f0_names_335 f0_name_336 f0_slot_337 f0_parts_338 f0_trouble_339 f0_troubled_340 f0_happened_341 f0_commitCount_342 f0_first_343 f0_waiting_344 f0_sent_345 f0_lostCount_346 am541_349 am542_352 am543_355 am544_358 am545_361 am546_364 am547_367 am548_370 am549_373 am5410_376 am5411_379 am5412_382 am5413_385 am5414_388 am5415_391 am5416_394 h
      refine zr_pX_releaseOn hc rfl rfl h ?_
      intro f0_openSet_396 f0_state_397 f0_votes_398 f0_heard_399 f0_names_400 f0_name_401 f0_slot_402 f0_parts_403 f0_trouble_404 f0_troubled_405 f0_happened_406 f0_commitCount_407 f0_first_408 f0_waiting_409 f0_sent_410 f0_lostCount_411 am631_414 am632_417 am633_420 am634_423 am635_426 am636_429 am637_432 am638_435 am639_438 am6310_441 am6311_444 am6312_447 am6313_450 am6314_453 am6315_456 am6316_459 h
      exact zr_X_hearCommit_66 hc rfl h hk
    · intro h
      exact zr_X_hearCommit_66 hc rfl h hk
  · intro h
    refine zr_pX_breakDown hc rfl h ?_
    intro r_460 R_ eR_ f0_openSet_461 f0_state_462 f0_votes_463 f0_heard_464 f0_names_465 f0_name_466 f0_slot_467 f0_parts_468 f0_trouble_469 f0_troubled_470 f0_happened_471 f0_commitCount_472 f0_first_473 f0_waiting_474 f0_sent_475 f0_lostCount_476 am111_479 am112_482 am113_485 am114_488 am115_491 am116_494 am117_497 am118_500 am119_503 am1110_506 am1111_509 am1112_512 am1113_515 am1114_518 am1115_521 am1116_524 h
    subst eR_
    exact hk h
noncomputable def zq_X_promiseOn_2 (kk : Nat → Nat → Nat → Nat → Nat → Nat → Nat → Nat → Nat → Nat → Nat → Nat → Nat → Nat → Nat → Nat → Nat → Nat → Nat → Nat → Nat → Nat → Nat → Nat → Nat → Nat → Nat → Nat → Nat → Nat → Nat → Nat → Bool) (x1 : Nat) : Nat → Nat → Nat → Nat → Nat → Nat → Nat → Nat → Nat → Nat → Nat → Nat → Nat → Nat → Nat → Nat → Nat → Nat → Nat → Nat → Nat → Nat → Nat → Nat → Nat → Nat → Nat → Nat → Nat → Nat → Nat → Nat → Nat → Nat → Bool
  | 0 => fun _ _ _ _ _ _ _ _ _ _ _ _ _ _ _ _ _ _ _ _ _ _ _ _ _ _ _ _ _ _ _ _ _ => false
  | n + 1 => fun x2 f0_openSet f0_state f0_votes f0_heard f0_names f0_name f0_slot f0_parts f0_trouble f0_troubled f0_happened f0_commitCount f0_first f0_waiting f0_sent f0_lostCount a1 a2 a3 a4 a5 a6 a7 a8 a9 a10 a11 a12 a13 a14 a15 a16 => (zb_if (zb_le 12 x2) (zq_pX_log (fun f0_openSet_3 f0_state_4 f0_votes_5 f0_heard_6 f0_names_7 f0_name_8 f0_slot_9 f0_parts_10 f0_trouble_11 f0_troubled_12 f0_happened_13 f0_commitCount_14 f0_first_15 f0_waiting_16 f0_sent_17 f0_lostCount_18 am601_21 am602_24 am603_27 am604_30 am605_33 am606_36 am607_39 am608_42 am609_45 am6010_48 am6011_51 am6012_54 am6013_57 am6014_60 am6015_63 am6016_66 => (zb_in (Nat.add (Nat.mul f0_slot_9 3) x1) 12 (zb_let (zb_wr am6011_51 (zb_cl (Nat.add (Nat.mul f0_slot_9 3) x1)) f0_name_8) (fun am6011_68 => (kk f0_openSet_3 f0_state_4 f0_votes_5 f0_heard_6 f0_names_7 f0_name_8 f0_slot_9 f0_parts_10 f0_trouble_11 f0_troubled_12 f0_happened_13 f0_commitCount_14 f0_first_15 f0_waiting_16 f0_sent_17 f0_lostCount_18 am601_21 am602_24 am603_27 am604_30 am605_33 am606_36 am607_39 am608_42 am609_45 am6010_48 am6011_68 am6012_54 am6013_57 am6014_60 am6015_63 am6016_66))))) f0_openSet f0_state f0_votes f0_heard f0_names f0_name f0_slot f0_parts f0_trouble f0_troubled f0_happened f0_commitCount f0_first f0_waiting f0_sent f0_lostCount a1 a2 a3 a4 a5 a6 a7 a8 a9 a10 a11 a12 a13 a14 a15 a16 x1 2 f0_name 0 (zb_kv 0)) (zq_pX_hasWritten (fun r_69 => (zb_if (zb_eq r_69 0) (zb_let (Nat.add x2 3) (fun x2_71 => (zq_X_promiseOn_2 kk x1 n x2_71 f0_openSet f0_state f0_votes f0_heard f0_names f0_name f0_slot f0_parts f0_trouble f0_troubled f0_happened f0_commitCount f0_first f0_waiting f0_sent f0_lostCount a1 a2 a3 a4 a5 a6 a7 a8 a9 a10 a11 a12 a13 a14 a15 a16))) (zb_in (Nat.add (Nat.mul f0_slot 12) x2) 48 (zq_pX_log (fun f0_openSet_74 f0_state_75 f0_votes_76 f0_heard_77 f0_names_78 f0_name_79 f0_slot_80 f0_parts_81 f0_trouble_82 f0_troubled_83 f0_happened_84 f0_commitCount_85 f0_first_86 f0_waiting_87 f0_sent_88 f0_lostCount_89 am421_92 am422_95 am423_98 am424_101 am425_104 am426_107 am427_110 am428_113 am429_116 am4210_119 am4211_122 am4212_125 am4213_128 am4214_131 am4215_134 am4216_137 => (zb_let (Nat.add x2 3) (fun x2_138 => (zq_X_promiseOn_2 kk x1 n x2_138 f0_openSet_74 f0_state_75 f0_votes_76 f0_heard_77 f0_names_78 f0_name_79 f0_slot_80 f0_parts_81 f0_trouble_82 f0_troubled_83 f0_happened_84 f0_commitCount_85 f0_first_86 f0_waiting_87 f0_sent_88 f0_lostCount_89 am421_92 am422_95 am423_98 am424_101 am425_104 am426_107 am427_110 am428_113 am429_116 am4210_119 am4211_122 am4212_125 am4213_128 am4214_131 am4215_134 am4216_137)))) f0_openSet f0_state f0_votes f0_heard f0_names f0_name f0_slot f0_parts f0_trouble f0_troubled f0_happened f0_commitCount f0_first f0_waiting f0_sent f0_lostCount a1 a2 a3 a4 a5 a6 a7 a8 a9 a10 a11 a12 a13 a14 a15 a16 x1 1 f0_name x2 (zb_rd a10 (Nat.add (Nat.mul f0_slot 12) x2)))))) f0_openSet f0_state f0_votes f0_heard f0_names f0_name f0_slot f0_parts f0_trouble f0_troubled f0_happened f0_commitCount f0_first f0_waiting f0_sent f0_lostCount a1 a2 a3 a4 a5 a6 a7 a8 a9 a10 a11 a12 a13 a14 a15 a16 f0_slot x2))
theorem zr_X_promiseOn_2 {c : Nat} (hc : c ≤ 1023) {post : St2 → Prop} {kk : Nat → Nat → Nat → Nat → Nat → Nat → Nat → Nat → Nat → Nat → Nat → Nat → Nat → Nat → Nat → Nat → Nat → Nat → Nat → Nat → Nat → Nat → Nat → Nat → Nat → Nat → Nat → Nat → Nat → Nat → Nat → Nat → Bool} (hk : ∀ {f1 f2 f3 f4 f5 f6 f7 f8 f9 f10 f11 f12 f13 f14 f15 f16 b1 b2 b3 b4 b5 b6 b7 b8 b9 b10 b11 b12 b13 b14 b15 b16 : Nat}, kk f1 f2 f3 f4 f5 f6 f7 f8 f9 f10 f11 f12 f13 f14 f15 f16 b1 b2 b3 b4 b5 b6 b7 b8 b9 b10 b11 b12 b13 b14 b15 b16 = true → post ((nI f1), (nI f2), (nI f3), (nI f4), (nI f5), (nI f6), (nI f7), (nI f8), (nI f9), (nI f10), (nI f11), (nI f12), (nI f13), (nI f14), (nI f15), (nI f16), (zb_va c b1), (zb_ka b2), (zb_ka b3), (zb_ka b4), (zb_ka b5), (zb_va c b6), (zb_va c b7), (zb_ka b8), (zb_ka b9), (zb_va c b10), (zb_ka b11), (zb_ka b12), (zb_ka b13), (zb_ka b14), (zb_ka b15), (zb_ka b16))) {x1 : Nat} {X_x1 : Int32} (e_x1 : X_x1 = nI x1) : ∀ (n : Nat) {x2 f0_openSet f0_state f0_votes f0_heard f0_names f0_name f0_slot f0_parts f0_trouble f0_troubled f0_happened f0_commitCount f0_first f0_waiting f0_sent f0_lostCount a1 a2 a3 a4 a5 a6 a7 a8 a9 a10 a11 a12 a13 a14 a15 a16 : Nat} {X_x2 : Int32}, X_x2 = nI x2 → zq_X_promiseOn_2 kk x1 n x2 f0_openSet f0_state f0_votes f0_heard f0_names f0_name f0_slot f0_parts f0_trouble f0_troubled f0_happened f0_commitCount f0_first f0_waiting f0_sent f0_lostCount a1 a2 a3 a4 a5 a6 a7 a8 a9 a10 a11 a12 a13 a14 a15 a16 = true → wX_promiseOn_2 post X_x1 n X_x2 (nI f0_openSet) (nI f0_state) (nI f0_votes) (nI f0_heard) (nI f0_names) (nI f0_name) (nI f0_slot) (nI f0_parts) (nI f0_trouble) (nI f0_troubled) (nI f0_happened) (nI f0_commitCount) (nI f0_first) (nI f0_waiting) (nI f0_sent) (nI f0_lostCount) (zb_va c a1) (zb_ka a2) (zb_ka a3) (zb_ka a4) (zb_ka a5) (zb_va c a6) (zb_va c a7) (zb_ka a8) (zb_ka a9) (zb_va c a10) (zb_ka a11) (zb_ka a12) (zb_ka a13) (zb_ka a14) (zb_ka a15) (zb_ka a16) := by
  subst e_x1
  intro n
  induction n with
  | zero =>
    intro x2 f0_openSet f0_state f0_votes f0_heard f0_names f0_name f0_slot f0_parts f0_trouble f0_troubled f0_happened f0_commitCount f0_first f0_waiting f0_sent f0_lostCount a1 a2 a3 a4 a5 a6 a7 a8 a9 a10 a11 a12 a13 a14 a15 a16 X_x2 e_x2 h
    exact absurd (show false = true from h) Bool.false_ne_true
  | succ n ih =>
    intro x2 f0_openSet f0_state f0_votes f0_heard f0_names f0_name f0_slot f0_parts f0_trouble f0_troubled f0_happened f0_commitCount f0_first f0_waiting f0_sent f0_lostCount a1 a2 a3 a4 a5 a6 a7 a8 a9 a10 a11 a12 a13 a14 a15 a16 X_x2 e_x2 h
    subst e_x2
    refine zb_if_ok (zb_leP (rfl : (12 : Int32) = nI 12) rfl) h ?_ ?_
    · intro h
      refine zr_pX_log hc rfl (rfl : (2 : Int32) = nI 2) rfl (rfl : (0 : Int32) = nI 0) (zb_kvP (rfl : (0 : Int32) = nI 0)) h ?_
      intro f0_openSet_3 f0_state_4 f0_votes_5 f0_heard_6 f0_names_7 f0_name_8 f0_slot_9 f0_parts_10 f0_trouble_11 f0_troubled_12 f0_happened_13 f0_commitCount_14 f0_first_15 f0_waiting_16 f0_sent_17 f0_lostCount_18 am601_21 am602_24 am603_27 am604_30 am605_33 am606_36 am607_39 am608_42 am609_45 am6010_48 am6011_51 am6012_54 am6013_57 am6014_60 am6015_63 am6016_66 h
      refine zb_in_ok (zb_addP (zb_mulP rfl (rfl : (3 : Int32) = nI 3)) rfl) (by decide) h ?_
      intro h
      refine zb_let_ka h (zb_upK (zb_addP (zb_mulP rfl (rfl : (3 : Int32) = nI 3)) rfl) rfl) ?_
      intro h
      exact hk h
    · intro h
      refine zr_pX_hasWritten hc rfl rfl h ?_
      intro r_69 R_ eR_ h
      subst eR_
      refine zb_if_ok (zb_eqP rfl (rfl : (0 : Int32) = nI 0)) h ?_ ?_
      · intro h
        refine zb_let_k h (zb_addP rfl (rfl : (3 : Int32) = nI 3)) ?_
        intro h
        exact ih rfl h
      · intro h
        refine zb_in_ok (zb_addP (zb_mulP rfl (rfl : (12 : Int32) = nI 12)) rfl) (by decide) h ?_
        intro h
        refine zr_pX_log hc rfl (rfl : (1 : Int32) = nI 1) rfl rfl (zb_rdV (zb_addP (zb_mulP rfl (rfl : (12 : Int32) = nI 12)) rfl)) h ?_
        intro f0_openSet_74 f0_state_75 f0_votes_76 f0_heard_77 f0_names_78 f0_name_79 f0_slot_80 f0_parts_81 f0_trouble_82 f0_troubled_83 f0_happened_84 f0_commitCount_85 f0_first_86 f0_waiting_87 f0_sent_88 f0_lostCount_89 am421_92 am422_95 am423_98 am424_101 am425_104 am426_107 am427_110 am428_113 am429_116 am4210_119 am4211_122 am4212_125 am4213_128 am4214_131 am4215_134 am4216_137 h
        refine zb_let_k h (zb_addP rfl (rfl : (3 : Int32) = nI 3)) ?_
        intro h
        exact ih rfl h
noncomputable def zq_pX_promiseOn (kk : Nat → Nat → Nat → Nat → Nat → Nat → Nat → Nat → Nat → Nat → Nat → Nat → Nat → Nat → Nat → Nat → Nat → Nat → Nat → Nat → Nat → Nat → Nat → Nat → Nat → Nat → Nat → Nat → Nat → Nat → Nat → Nat → Bool) (f0_openSet f0_state f0_votes f0_heard f0_names f0_name f0_slot f0_parts f0_trouble f0_troubled f0_happened f0_commitCount f0_first f0_waiting f0_sent f0_lostCount a1 a2 a3 a4 a5 a6 a7 a8 a9 a10 a11 a12 a13 a14 a15 a16 p0 : Nat) : Bool := (zq_X_promiseOn_2 kk p0 70 p0 f0_openSet f0_state f0_votes f0_heard f0_names f0_name f0_slot f0_parts f0_trouble f0_troubled f0_happened f0_commitCount f0_first f0_waiting f0_sent f0_lostCount a1 a2 a3 a4 a5 a6 a7 a8 a9 a10 a11 a12 a13 a14 a15 a16)
theorem zr_pX_promiseOn {c : Nat} (hc : c ≤ 1023) {post : St2 → Prop} {kk : Nat → Nat → Nat → Nat → Nat → Nat → Nat → Nat → Nat → Nat → Nat → Nat → Nat → Nat → Nat → Nat → Nat → Nat → Nat → Nat → Nat → Nat → Nat → Nat → Nat → Nat → Nat → Nat → Nat → Nat → Nat → Nat → Bool} {f0_openSet f0_state f0_votes f0_heard f0_names f0_name f0_slot f0_parts f0_trouble f0_troubled f0_happened f0_commitCount f0_first f0_waiting f0_sent f0_lostCount a1 a2 a3 a4 a5 a6 a7 a8 a9 a10 a11 a12 a13 a14 a15 a16 p0 : Nat} {X_p0 : Int32} (e_p0 : X_p0 = nI p0) (h : zq_pX_promiseOn kk f0_openSet f0_state f0_votes f0_heard f0_names f0_name f0_slot f0_parts f0_trouble f0_troubled f0_happened f0_commitCount f0_first f0_waiting f0_sent f0_lostCount a1 a2 a3 a4 a5 a6 a7 a8 a9 a10 a11 a12 a13 a14 a15 a16 p0 = true) (hk : ∀ {f1 f2 f3 f4 f5 f6 f7 f8 f9 f10 f11 f12 f13 f14 f15 f16 b1 b2 b3 b4 b5 b6 b7 b8 b9 b10 b11 b12 b13 b14 b15 b16 : Nat}, kk f1 f2 f3 f4 f5 f6 f7 f8 f9 f10 f11 f12 f13 f14 f15 f16 b1 b2 b3 b4 b5 b6 b7 b8 b9 b10 b11 b12 b13 b14 b15 b16 = true → post ((nI f1), (nI f2), (nI f3), (nI f4), (nI f5), (nI f6), (nI f7), (nI f8), (nI f9), (nI f10), (nI f11), (nI f12), (nI f13), (nI f14), (nI f15), (nI f16), (zb_va c b1), (zb_ka b2), (zb_ka b3), (zb_ka b4), (zb_ka b5), (zb_va c b6), (zb_va c b7), (zb_ka b8), (zb_ka b9), (zb_va c b10), (zb_ka b11), (zb_ka b12), (zb_ka b13), (zb_ka b14), (zb_ka b15), (zb_ka b16))) : wpX_promiseOn post ((nI f0_openSet), (nI f0_state), (nI f0_votes), (nI f0_heard), (nI f0_names), (nI f0_name), (nI f0_slot), (nI f0_parts), (nI f0_trouble), (nI f0_troubled), (nI f0_happened), (nI f0_commitCount), (nI f0_first), (nI f0_waiting), (nI f0_sent), (nI f0_lostCount), (zb_va c a1), (zb_ka a2), (zb_ka a3), (zb_ka a4), (zb_ka a5), (zb_va c a6), (zb_va c a7), (zb_ka a8), (zb_ka a9), (zb_va c a10), (zb_ka a11), (zb_ka a12), (zb_ka a13), (zb_ka a14), (zb_ka a15), (zb_ka a16)) X_p0 := by
  subst e_p0
  unfold zq_pX_promiseOn at h
  unfold wpX_promiseOn
  refine ⟨70, ?_⟩
  exact zr_X_promiseOn_2 hc hk rfl _ rfl h
noncomputable def zq_X_hearPrepare_60 (kk : Nat → Nat → Nat → Nat → Nat → Nat → Nat → Nat → Nat → Nat → Nat → Nat → Nat → Nat → Nat → Nat → Nat → Nat → Nat → Nat → Nat → Nat → Nat → Nat → Nat → Nat → Nat → Nat → Nat → Nat → Nat → Nat → Bool) (x1 f0_openSet f0_state f0_votes f0_heard f0_names f0_name f0_slot f0_parts f0_trouble f0_troubled f0_happened f0_commitCount f0_first f0_waiting f0_sent f0_lostCount am31 am32 am33 am34 am35 am36 am37 am38 am39 am310 am311 am312 am313 am314 am315 am316 : Nat) : Bool := (zq_pX_send (fun f0_openSet_73 f0_state_74 f0_votes_75 f0_heard_76 f0_names_77 f0_name_78 f0_slot_79 f0_parts_80 f0_trouble_81 f0_troubled_82 f0_happened_83 f0_commitCount_84 f0_first_85 f0_waiting_86 f0_sent_87 f0_lostCount_88 am641_91 am642_94 am643_97 am644_100 am645_103 am646_106 am647_109 am648_112 am649_115 am6410_118 am6411_121 am6412_124 am6413_127 am6414_130 am6415_133 am6416_136 => (kk f0_openSet_73 f0_state_74 f0_votes_75 f0_heard_76 f0_names_77 f0_name_78 f0_slot_79 f0_parts_80 f0_trouble_81 f0_troubled_82 f0_happened_83 f0_commitCount_84 f0_first_85 f0_waiting_86 f0_sent_87 f0_lostCount_88 am641_91 am642_94 am643_97 am644_100 am645_103 am646_106 am647_109 am648_112 am649_115 am6410_118 am6411_121 am6412_124 am6413_127 am6414_130 am6415_133 am6416_136)) f0_openSet f0_state f0_votes f0_heard f0_names f0_name f0_slot f0_parts f0_trouble f0_troubled f0_happened f0_commitCount f0_first f0_waiting f0_sent f0_lostCount am31 am32 am33 am34 am35 am36 am37 am38 am39 am310 am311 am312 am313 am314 am315 am316 2 x1 3)
theorem zr_X_hearPrepare_60 {c : Nat} (hc : c ≤ 1023) {post : St2 → Prop} {kk : Nat → Nat → Nat → Nat → Nat → Nat → Nat → Nat → Nat → Nat → Nat → Nat → Nat → Nat → Nat → Nat → Nat → Nat → Nat → Nat → Nat → Nat → Nat → Nat → Nat → Nat → Nat → Nat → Nat → Nat → Nat → Nat → Bool} {x1 f0_openSet f0_state f0_votes f0_heard f0_names f0_name f0_slot f0_parts f0_trouble f0_troubled f0_happened f0_commitCount f0_first f0_waiting f0_sent f0_lostCount am31 am32 am33 am34 am35 am36 am37 am38 am39 am310 am311 am312 am313 am314 am315 am316 : Nat} {X_x1 : Int32} (e_x1 : X_x1 = nI x1) (h : zq_X_hearPrepare_60 kk x1 f0_openSet f0_state f0_votes f0_heard f0_names f0_name f0_slot f0_parts f0_trouble f0_troubled f0_happened f0_commitCount f0_first f0_waiting f0_sent f0_lostCount am31 am32 am33 am34 am35 am36 am37 am38 am39 am310 am311 am312 am313 am314 am315 am316 = true) (hk : ∀ {f1 f2 f3 f4 f5 f6 f7 f8 f9 f10 f11 f12 f13 f14 f15 f16 b1 b2 b3 b4 b5 b6 b7 b8 b9 b10 b11 b12 b13 b14 b15 b16 : Nat}, kk f1 f2 f3 f4 f5 f6 f7 f8 f9 f10 f11 f12 f13 f14 f15 f16 b1 b2 b3 b4 b5 b6 b7 b8 b9 b10 b11 b12 b13 b14 b15 b16 = true → post ((nI f1), (nI f2), (nI f3), (nI f4), (nI f5), (nI f6), (nI f7), (nI f8), (nI f9), (nI f10), (nI f11), (nI f12), (nI f13), (nI f14), (nI f15), (nI f16), (zb_va c b1), (zb_ka b2), (zb_ka b3), (zb_ka b4), (zb_ka b5), (zb_va c b6), (zb_va c b7), (zb_ka b8), (zb_ka b9), (zb_va c b10), (zb_ka b11), (zb_ka b12), (zb_ka b13), (zb_ka b14), (zb_ka b15), (zb_ka b16))) : wX_hearPrepare_60 post X_x1 (nI f0_openSet) (nI f0_state) (nI f0_votes) (nI f0_heard) (nI f0_names) (nI f0_name) (nI f0_slot) (nI f0_parts) (nI f0_trouble) (nI f0_troubled) (nI f0_happened) (nI f0_commitCount) (nI f0_first) (nI f0_waiting) (nI f0_sent) (nI f0_lostCount) (zb_va c am31) (zb_ka am32) (zb_ka am33) (zb_ka am34) (zb_ka am35) (zb_va c am36) (zb_va c am37) (zb_ka am38) (zb_ka am39) (zb_va c am310) (zb_ka am311) (zb_ka am312) (zb_ka am313) (zb_ka am314) (zb_ka am315) (zb_ka am316) := by
  subst e_x1
  unfold zq_X_hearPrepare_60 at h
  unfold wX_hearPrepare_60
  refine zr_pX_send hc (rfl : (2 : Int32) = nI 2) rfl (rfl : (3 : Int32) = nI 3) h ?_
  intro f0_openSet_73 f0_state_74 f0_votes_75 f0_heard_76 f0_names_77 f0_name_78 f0_slot_79 f0_parts_80 f0_trouble_81 f0_troubled_82 f0_happened_83 f0_commitCount_84 f0_first_85 f0_waiting_86 f0_sent_87 f0_lostCount_88 am641_91 am642_94 am643_97 am644_100 am645_103 am646_106 am647_109 am648_112 am649_115 am6410_118 am6411_121 am6412_124 am6413_127 am6414_130 am6415_133 am6416_136 h
  exact hk h
noncomputable def zq_pX_hearPrepare (kk : Nat → Nat → Nat → Nat → Nat → Nat → Nat → Nat → Nat → Nat → Nat → Nat → Nat → Nat → Nat → Nat → Nat → Nat → Nat → Nat → Nat → Nat → Nat → Nat → Nat → Nat → Nat → Nat → Nat → Nat → Nat → Nat → Bool) (f0_openSet f0_state f0_votes f0_heard f0_names f0_name f0_slot f0_parts f0_trouble f0_troubled f0_happened f0_commitCount f0_first f0_waiting f0_sent f0_lostCount a1 a2 a3 a4 a5 a6 a7 a8 a9 a10 a11 a12 a13 a14 a15 a16 p0 : Nat) : Bool := (zq_pX_strikes (fun r_1 f0_openSet_2 f0_state_3 f0_votes_4 f0_heard_5 f0_names_6 f0_name_7 f0_slot_8 f0_parts_9 f0_trouble_10 f0_troubled_11 f0_happened_12 f0_commitCount_13 f0_first_14 f0_waiting_15 f0_sent_16 f0_lostCount_17 am31_20 am32_23 am33_26 am34_29 am35_32 am36_35 am37_38 am38_41 am39_44 am310_47 am311_50 am312_53 am313_56 am314_59 am315_62 am316_65 => (zb_if (zb_eq r_1 0) (zb_let (Nat.add (Nat.mul f0_slot_8 3) p0) (fun x2_67 => (zb_in x2_67 12 (zb_if (zb_eq (zb_rd am312_53 x2_67) 0) (zb_in x2_67 12 (zb_if (zb_eq (zb_rd am311_50 x2_67) f0_name_7) (zq_X_hearPrepare_60 kk p0 f0_openSet_2 f0_state_3 f0_votes_4 f0_heard_5 f0_names_6 f0_name_7 f0_slot_8 f0_parts_9 f0_trouble_10 f0_troubled_11 f0_happened_12 f0_commitCount_13 f0_first_14 f0_waiting_15 f0_sent_16 f0_lostCount_17 am31_20 am32_23 am33_26 am34_29 am35_32 am36_35 am37_38 am38_41 am39_44 am310_47 am311_50 am312_53 am313_56 am314_59 am315_62 am316_65) (zq_pX_promiseOn (fun f0_openSet_138 f0_state_139 f0_votes_140 f0_heard_141 f0_names_142 f0_name_143 f0_slot_144 f0_parts_145 f0_trouble_146 f0_troubled_147 f0_happened_148 f0_commitCount_149 f0_first_150 f0_waiting_151 f0_sent_152 f0_lostCount_153 am571_156 am572_159 am573_162 am574_165 am575_168 am576_171 am577_174 am578_177 am579_180 am5710_183 am5711_186 am5712_189 am5713_192 am5714_195 am5715_198 am5716_201 => (zq_X_hearPrepare_60 kk p0 f0_openSet_138 f0_state_139 f0_votes_140 f0_heard_141 f0_names_142 f0_name_143 f0_slot_144 f0_parts_145 f0_trouble_146 f0_troubled_147 f0_happened_148 f0_commitCount_149 f0_first_150 f0_waiting_151 f0_sent_152 f0_lostCount_153 am571_156 am572_159 am573_162 am574_165 am575_168 am576_171 am577_174 am578_177 am579_180 am5710_183 am5711_186 am5712_189 am5713_192 am5714_195 am5715_198 am5716_201)) f0_openSet_2 f0_state_3 f0_votes_4 f0_heard_5 f0_names_6 f0_name_7 f0_slot_8 f0_parts_9 f0_trouble_10 f0_troubled_11 f0_happened_12 f0_commitCount_13 f0_first_14 f0_waiting_15 f0_sent_16 f0_lostCount_17 am31_20 am32_23 am33_26 am34_29 am35_32 am36_35 am37_38 am38_41 am39_44 am310_47 am311_50 am312_53 am313_56 am314_59 am315_62 am316_65 p0))) (zq_pX_send (fun f0_openSet_203 f0_state_204 f0_votes_205 f0_heard_206 f0_names_207 f0_name_208 f0_slot_209 f0_parts_210 f0_trouble_211 f0_troubled_212 f0_happened_213 f0_commitCount_214 f0_first_215 f0_waiting_216 f0_sent_217 f0_lostCount_218 am381_221 am382_224 am383_227 am384_230 am385_233 am386_236 am387_239 am388_242 am389_245 am3810_248 am3811_251 am3812_254 am3813_257 am3814_260 am3815_263 am3816_266 => (kk f0_openSet_203 f0_state_204 f0_votes_205 f0_heard_206 f0_names_207 f0_name_208 f0_slot_209 f0_parts_210 f0_trouble_211 f0_troubled_212 f0_happened_213 f0_commitCount_214 f0_first_215 f0_waiting_216 f0_sent_217 f0_lostCount_218 am381_221 am382_224 am383_227 am384_230 am385_233 am386_236 am387_239 am388_242 am389_245 am3810_248 am3811_251 am3812_254 am3813_257 am3814_260 am3815_263 am3816_266)) f0_openSet_2 f0_state_3 f0_votes_4 f0_heard_5 f0_names_6 f0_name_7 f0_slot_8 f0_parts_9 f0_trouble_10 f0_troubled_11 f0_happened_12 f0_commitCount_13 f0_first_14 f0_waiting_15 f0_sent_16 f0_lostCount_17 am31_20 am32_23 am33_26 am34_29 am35_32 am36_35 am37_38 am38_41 am39_44 am310_47 am311_50 am312_53 am313_56 am314_59 am315_62 am316_65 3 p0 3))))) (zq_pX_breakDown (fun r_267 f0_openSet_268 f0_state_269 f0_votes_270 f0_heard_271 f0_names_272 f0_name_273 f0_slot_274 f0_parts_275 f0_trouble_276 f0_troubled_277 f0_happened_278 f0_commitCount_279 f0_first_280 f0_waiting_281 f0_sent_282 f0_lostCount_283 am111_286 am112_289 am113_292 am114_295 am115_298 am116_301 am117_304 am118_307 am119_310 am1110_313 am1111_316 am1112_319 am1113_322 am1114_325 am1115_328 am1116_331 => (kk f0_openSet_268 f0_state_269 f0_votes_270 f0_heard_271 f0_names_272 f0_name_273 f0_slot_274 f0_parts_275 f0_trouble_276 f0_troubled_277 f0_happened_278 f0_commitCount_279 f0_first_280 f0_waiting_281 f0_sent_282 f0_lostCount_283 am111_286 am112_289 am113_292 am114_295 am115_298 am116_301 am117_304 am118_307 am119_310 am1110_313 am1111_316 am1112_319 am1113_322 am1114_325 am1115_328 am1116_331)) f0_openSet_2 f0_state_3 f0_votes_4 f0_heard_5 f0_names_6 f0_name_7 f0_slot_8 f0_parts_9 f0_trouble_10 f0_troubled_11 f0_happened_12 f0_commitCount_13 f0_first_14 f0_waiting_15 f0_sent_16 f0_lostCount_17 am31_20 am32_23 am33_26 am34_29 am35_32 am36_35 am37_38 am38_41 am39_44 am310_47 am311_50 am312_53 am313_56 am314_59 am315_62 am316_65 p0))) f0_openSet f0_state f0_votes f0_heard f0_names f0_name f0_slot f0_parts f0_trouble f0_troubled f0_happened f0_commitCount f0_first f0_waiting f0_sent f0_lostCount a1 a2 a3 a4 a5 a6 a7 a8 a9 a10 a11 a12 a13 a14 a15 a16 1 p0)
theorem zr_pX_hearPrepare {c : Nat} (hc : c ≤ 1023) {post : St2 → Prop} {kk : Nat → Nat → Nat → Nat → Nat → Nat → Nat → Nat → Nat → Nat → Nat → Nat → Nat → Nat → Nat → Nat → Nat → Nat → Nat → Nat → Nat → Nat → Nat → Nat → Nat → Nat → Nat → Nat → Nat → Nat → Nat → Nat → Bool} {f0_openSet f0_state f0_votes f0_heard f0_names f0_name f0_slot f0_parts f0_trouble f0_troubled f0_happened f0_commitCount f0_first f0_waiting f0_sent f0_lostCount a1 a2 a3 a4 a5 a6 a7 a8 a9 a10 a11 a12 a13 a14 a15 a16 p0 : Nat} {X_p0 : Int32} (e_p0 : X_p0 = nI p0) (h : zq_pX_hearPrepare kk f0_openSet f0_state f0_votes f0_heard f0_names f0_name f0_slot f0_parts f0_trouble f0_troubled f0_happened f0_commitCount f0_first f0_waiting f0_sent f0_lostCount a1 a2 a3 a4 a5 a6 a7 a8 a9 a10 a11 a12 a13 a14 a15 a16 p0 = true) (hk : ∀ {f1 f2 f3 f4 f5 f6 f7 f8 f9 f10 f11 f12 f13 f14 f15 f16 b1 b2 b3 b4 b5 b6 b7 b8 b9 b10 b11 b12 b13 b14 b15 b16 : Nat}, kk f1 f2 f3 f4 f5 f6 f7 f8 f9 f10 f11 f12 f13 f14 f15 f16 b1 b2 b3 b4 b5 b6 b7 b8 b9 b10 b11 b12 b13 b14 b15 b16 = true → post ((nI f1), (nI f2), (nI f3), (nI f4), (nI f5), (nI f6), (nI f7), (nI f8), (nI f9), (nI f10), (nI f11), (nI f12), (nI f13), (nI f14), (nI f15), (nI f16), (zb_va c b1), (zb_ka b2), (zb_ka b3), (zb_ka b4), (zb_ka b5), (zb_va c b6), (zb_va c b7), (zb_ka b8), (zb_ka b9), (zb_va c b10), (zb_ka b11), (zb_ka b12), (zb_ka b13), (zb_ka b14), (zb_ka b15), (zb_ka b16))) : wpX_hearPrepare post ((nI f0_openSet), (nI f0_state), (nI f0_votes), (nI f0_heard), (nI f0_names), (nI f0_name), (nI f0_slot), (nI f0_parts), (nI f0_trouble), (nI f0_troubled), (nI f0_happened), (nI f0_commitCount), (nI f0_first), (nI f0_waiting), (nI f0_sent), (nI f0_lostCount), (zb_va c a1), (zb_ka a2), (zb_ka a3), (zb_ka a4), (zb_ka a5), (zb_va c a6), (zb_va c a7), (zb_ka a8), (zb_ka a9), (zb_va c a10), (zb_ka a11), (zb_ka a12), (zb_ka a13), (zb_ka a14), (zb_ka a15), (zb_ka a16)) X_p0 := by
  subst e_p0
  unfold zq_pX_hearPrepare at h
  unfold wpX_hearPrepare
  refine zr_pX_strikes hc (rfl : (1 : Int32) = nI 1) rfl h ?_
  intro r_1 R_ eR_ f0_openSet_2 f0_state_3 f0_votes_4 f0_heard_5 f0_names_6 f0_name_7 f0_slot_8 f0_parts_9 f0_trouble_10 f0_troubled_11 f0_happened_12 f0_commitCount_13 f0_first_14 f0_waiting_15 f0_sent_16 f0_lostCount_17 am31_20 am32_23 am33_26 am34_29 am35_32 am36_35 am37_38 am38_41 am39_44 am310_47 am311_50 am312_53 am313_56 am314_59 am315_62 am316_65 h
  subst eR_
  refine zb_if_ok (zb_eqP rfl (rfl : (0 : Int32) = nI 0)) h ?_ ?_
  · intro h
    refine zb_let_k h (zb_addP (zb_mulP rfl (rfl : (3 : Int32) = nI 3)) rfl) ?_
    intro h
    refine zb_in_ok rfl (by decide) h ?_
    intro h
    refine zb_if_ok (zb_eqP (zb_rdK rfl) (rfl : (0 : Int32) = nI 0)) h ?_ ?_
    · intro h
      refine zb_in_ok rfl (by decide) h ?_
      intro h
      refine zb_if_ok (zb_eqP (zb_rdK rfl) rfl) h ?_ ?_
      · intro h
        exact zr_X_hearPrepare_60 hc rfl h hk
      · intro h
        refine zr_pX_promiseOn hc rfl h ?_
        intro f0_openSet_138 f0_state_139 f0_votes_140 f0_heard_141 f0_names_142 f0_name_143 f0_slot_144 f0_parts_145 f0_trouble_146 f0_troubled_147 f0_happened_148 f0_commitCount_149 f0_first_150 f0_waiting_151 f0_sent_152 f0_lostCount_153 am571_156 am572_159 am573_162 am574_165 am575_168 am576_171 am577_174 am578_177 am579_180 am5710_183 am5711_186 am5712_189 am5713_192 am5714_195 am5715_198 am5716_201 h
        exact zr_X_hearPrepare_60 hc rfl h hk
    · intro h
      refine zr_pX_send hc (rfl : (3 : Int32) = nI 3) rfl (rfl : (3 : Int32) = nI 3) h ?_
      intro f0_openSet_203 f0_state_204 f0_votes_205 f0_heard_206 f0_names_207 f0_name_208 f0_slot_209 f0_parts_210 f0_trouble_211 f0_troubled_212 f0_happened_213 f0_commitCount_214 f0_first_215 f0_waiting_216 f0_sent_217 f0_lostCount_218 am381_221 am382_224 am383_227 am384_230 am385_233 am386_236 am387_239 am388_242 am389_245 am3810_248 am3811_251 am3812_254 am3813_257 am3814_260 am3815_263 am3816_266 h
      exact hk h
  · intro h
    refine zr_pX_breakDown hc rfl h ?_
    intro r_267 R_ eR_ f0_openSet_268 f0_state_269 f0_votes_270 f0_heard_271 f0_names_272 f0_name_273 f0_slot_274 f0_parts_275 f0_trouble_276 f0_troubled_277 f0_happened_278 f0_commitCount_279 f0_first_280 f0_waiting_281 f0_sent_282 f0_lostCount_283 am111_286 am112_289 am113_292 am114_295 am115_298 am116_301 am117_304 am118_307 am119_310 am1110_313 am1111_316 am1112_319 am1113_322 am1114_325 am1115_328 am1116_331 h
    subst eR_
    exact hk h
noncomputable def zq_pX_hearAsMachine (kk : Nat → Nat → Nat → Nat → Nat → Nat → Nat → Nat → Nat → Nat → Nat → Nat → Nat → Nat → Nat → Nat → Nat → Nat → Nat → Nat → Nat → Nat → Nat → Nat → Nat → Nat → Nat → Nat → Nat → Nat → Nat → Nat → Bool) (f0_openSet f0_state f0_votes f0_heard f0_names f0_name f0_slot f0_parts f0_trouble f0_troubled f0_happened f0_commitCount f0_first f0_waiting f0_sent f0_lostCount a1 a2 a3 a4 a5 a6 a7 a8 a9 a10 a11 a12 a13 a14 a15 a16 p0 p1 : Nat) : Bool := (zb_if (zb_eq p0 1) (zq_pX_hearPrepare (fun f0_openSet_134 f0_state_135 f0_votes_136 f0_heard_137 f0_names_138 f0_name_139 f0_slot_140 f0_parts_141 f0_trouble_142 f0_troubled_143 f0_happened_144 f0_commitCount_145 f0_first_146 f0_waiting_147 f0_sent_148 f0_lostCount_149 am71_152 am72_155 am73_158 am74_161 am75_164 am76_167 am77_170 am78_173 am79_176 am710_179 am711_182 am712_185 am713_188 am714_191 am715_194 am716_197 => (kk f0_openSet_134 f0_state_135 f0_votes_136 f0_heard_137 f0_names_138 f0_name_139 f0_slot_140 f0_parts_141 f0_trouble_142 f0_troubled_143 f0_happened_144 f0_commitCount_145 f0_first_146 f0_waiting_147 f0_sent_148 f0_lostCount_149 am71_152 am72_155 am73_158 am74_161 am75_164 am76_167 am77_170 am78_173 am79_176 am710_179 am711_182 am712_185 am713_188 am714_191 am715_194 am716_197)) f0_openSet f0_state f0_votes f0_heard f0_names f0_name f0_slot f0_parts f0_trouble f0_troubled f0_happened f0_commitCount f0_first f0_waiting f0_sent f0_lostCount a1 a2 a3 a4 a5 a6 a7 a8 a9 a10 a11 a12 a13 a14 a15 a16 p1) (zb_if (zb_eq p0 4) (zq_pX_hearCommit (fun f0_openSet_69 f0_state_70 f0_votes_71 f0_heard_72 f0_names_73 f0_name_74 f0_slot_75 f0_parts_76 f0_trouble_77 f0_troubled_78 f0_happened_79 f0_commitCount_80 f0_first_81 f0_waiting_82 f0_sent_83 f0_lostCount_84 am201_87 am202_90 am203_93 am204_96 am205_99 am206_102 am207_105 am208_108 am209_111 am2010_114 am2011_117 am2012_120 am2013_123 am2014_126 am2015_129 am2016_132 => (kk f0_openSet_69 f0_state_70 f0_votes_71 f0_heard_72 f0_names_73 f0_name_74 f0_slot_75 f0_parts_76 f0_trouble_77 f0_troubled_78 f0_happened_79 f0_commitCount_80 f0_first_81 f0_waiting_82 f0_sent_83 f0_lostCount_84 am201_87 am202_90 am203_93 am204_96 am205_99 am206_102 am207_105 am208_108 am209_111 am2010_114 am2011_117 am2012_120 am2013_123 am2014_126 am2015_129 am2016_132)) f0_openSet f0_state f0_votes f0_heard f0_names f0_name f0_slot f0_parts f0_trouble f0_troubled f0_happened f0_commitCount f0_first f0_waiting f0_sent f0_lostCount a1 a2 a3 a4 a5 a6 a7 a8 a9 a10 a11 a12 a13 a14 a15 a16 p1) (zq_pX_hearRefuse (fun f0_openSet_4 f0_state_5 f0_votes_6 f0_heard_7 f0_names_8 f0_name_9 f0_slot_10 f0_parts_11 f0_trouble_12 f0_troubled_13 f0_happened_14 f0_commitCount_15 f0_first_16 f0_waiting_17 f0_sent_18 f0_lostCount_19 am281_22 am282_25 am283_28 am284_31 am285_34 am286_37 am287_40 am288_43 am289_46 am2810_49 am2811_52 am2812_55 am2813_58 am2814_61 am2815_64 am2816_67 => (kk f0_openSet_4 f0_state_5 f0_votes_6 f0_heard_7 f0_names_8 f0_name_9 f0_slot_10 f0_parts_11 f0_trouble_12 f0_troubled_13 f0_happened_14 f0_commitCount_15 f0_first_16 f0_waiting_17 f0_sent_18 f0_lostCount_19 am281_22 am282_25 am283_28 am284_31 am285_34 am286_37 am287_40 am288_43 am289_46 am2810_49 am2811_52 am2812_55 am2813_58 am2814_61 am2815_64 am2816_67)) f0_openSet f0_state f0_votes f0_heard f0_names f0_name f0_slot f0_parts f0_trouble f0_troubled f0_happened f0_commitCount f0_first f0_waiting f0_sent f0_lostCount a1 a2 a3 a4 a5 a6 a7 a8 a9 a10 a11 a12 a13 a14 a15 a16 p1)))
theorem zr_pX_hearAsMachine {c : Nat} (hc : c ≤ 1023) {post : St2 → Prop} {kk : Nat → Nat → Nat → Nat → Nat → Nat → Nat → Nat → Nat → Nat → Nat → Nat → Nat → Nat → Nat → Nat → Nat → Nat → Nat → Nat → Nat → Nat → Nat → Nat → Nat → Nat → Nat → Nat → Nat → Nat → Nat → Nat → Bool} {f0_openSet f0_state f0_votes f0_heard f0_names f0_name f0_slot f0_parts f0_trouble f0_troubled f0_happened f0_commitCount f0_first f0_waiting f0_sent f0_lostCount a1 a2 a3 a4 a5 a6 a7 a8 a9 a10 a11 a12 a13 a14 a15 a16 p0 p1 : Nat} {X_p0 : Int32} (e_p0 : X_p0 = nI p0) {X_p1 : Int32} (e_p1 : X_p1 = nI p1) (h : zq_pX_hearAsMachine kk f0_openSet f0_state f0_votes f0_heard f0_names f0_name f0_slot f0_parts f0_trouble f0_troubled f0_happened f0_commitCount f0_first f0_waiting f0_sent f0_lostCount a1 a2 a3 a4 a5 a6 a7 a8 a9 a10 a11 a12 a13 a14 a15 a16 p0 p1 = true) (hk : ∀ {f1 f2 f3 f4 f5 f6 f7 f8 f9 f10 f11 f12 f13 f14 f15 f16 b1 b2 b3 b4 b5 b6 b7 b8 b9 b10 b11 b12 b13 b14 b15 b16 : Nat}, kk f1 f2 f3 f4 f5 f6 f7 f8 f9 f10 f11 f12 f13 f14 f15 f16 b1 b2 b3 b4 b5 b6 b7 b8 b9 b10 b11 b12 b13 b14 b15 b16 = true → post ((nI f1), (nI f2), (nI f3), (nI f4), (nI f5), (nI f6), (nI f7), (nI f8), (nI f9), (nI f10), (nI f11), (nI f12), (nI f13), (nI f14), (nI f15), (nI f16), (zb_va c b1), (zb_ka b2), (zb_ka b3), (zb_ka b4), (zb_ka b5), (zb_va c b6), (zb_va c b7), (zb_ka b8), (zb_ka b9), (zb_va c b10), (zb_ka b11), (zb_ka b12), (zb_ka b13), (zb_ka b14), (zb_ka b15), (zb_ka b16))) : wpX_hearAsMachine post ((nI f0_openSet), (nI f0_state), (nI f0_votes), (nI f0_heard), (nI f0_names), (nI f0_name), (nI f0_slot), (nI f0_parts), (nI f0_trouble), (nI f0_troubled), (nI f0_happened), (nI f0_commitCount), (nI f0_first), (nI f0_waiting), (nI f0_sent), (nI f0_lostCount), (zb_va c a1), (zb_ka a2), (zb_ka a3), (zb_ka a4), (zb_ka a5), (zb_va c a6), (zb_va c a7), (zb_ka a8), (zb_ka a9), (zb_va c a10), (zb_ka a11), (zb_ka a12), (zb_ka a13), (zb_ka a14), (zb_ka a15), (zb_ka a16)) X_p0 X_p1 := by
  subst e_p0
  subst e_p1
  unfold zq_pX_hearAsMachine at h
  unfold wpX_hearAsMachine
  refine zb_if_ok (zb_eqP rfl (rfl : (1 : Int32) = nI 1)) h ?_ ?_
  · intro h
    refine zr_pX_hearPrepare hc rfl h ?_
    intro f0_openSet_134 f0_state_135 f0_votes_136 f0_heard_137 f0_names_138 f0_name_139 f0_slot_140 f0_parts_141 f0_trouble_142 f0_troubled_143 f0_happened_144 f0_commitCount_145 f0_first_146 f0_waiting_147 f0_sent_148 f0_lostCount_149 am71_152 am72_155 am73_158 am74_161 am75_164 am76_167 am77_170 am78_173 am79_176 am710_179 am711_182 am712_185 am713_188 am714_191 am715_194 am716_197 h
    exact hk h
  · intro h
    refine zb_if_ok (zb_eqP rfl (rfl : (4 : Int32) = nI 4)) h ?_ ?_
    · intro h
      refine zr_pX_hearCommit hc rfl h ?_
      intro f0_openSet_69 f0_state_70 f0_votes_71 f0_heard_72 f0_names_73 f0_name_74 f0_slot_75 f0_parts_76 f0_trouble_77 f0_troubled_78 f0_happened_79 f0_commitCount_80 f0_first_81 f0_waiting_82 f0_sent_83 f0_lostCount_84 am201_87 am202_90 am203_93 am204_96 am205_99 am206_102 am207_105 am208_108 am209_111 am2010_114 am2011_117 am2012_120 am2013_123 am2014_126 am2015_129 am2016_132 h
      exact hk h
    · intro h
      refine zr_pX_hearRefuse hc rfl h ?_
      intro f0_openSet_4 f0_state_5 f0_votes_6 f0_heard_7 f0_names_8 f0_name_9 f0_slot_10 f0_parts_11 f0_trouble_12 f0_troubled_13 f0_happened_14 f0_commitCount_15 f0_first_16 f0_waiting_17 f0_sent_18 f0_lostCount_19 am281_22 am282_25 am283_28 am284_31 am285_34 am286_37 am287_40 am288_43 am289_46 am2810_49 am2811_52 am2812_55 am2813_58 am2814_61 am2815_64 am2816_67 h
      exact hk h
noncomputable def zq_X_hearAsLeader_117 (kk : Nat → Nat → Nat → Nat → Nat → Nat → Nat → Nat → Nat → Nat → Nat → Nat → Nat → Nat → Nat → Nat → Nat → Nat → Nat → Nat → Nat → Nat → Nat → Nat → Nat → Nat → Nat → Nat → Nat → Nat → Nat → Nat → Bool) (x2 z0 f0_openSet f0_state f0_votes f0_heard f0_names f0_name f0_slot f0_parts f0_trouble f0_troubled f0_happened f0_commitCount f0_first f0_waiting f0_sent f0_lostCount a1 a2 a3 a4 a5 a6 a7 a8 a9 a10 a11 a12 a13 a14 a15 a16 : Nat) : Bool := (zq_pX_send (fun f0_openSet_8 f0_state_9 f0_votes_10 f0_heard_11 f0_names_12 f0_name_13 f0_slot_14 f0_parts_15 f0_trouble_16 f0_troubled_17 f0_happened_18 f0_commitCount_19 f0_first_20 f0_waiting_21 f0_sent_22 f0_lostCount_23 am1191_26 am1192_29 am1193_32 am1194_35 am1195_38 am1196_41 am1197_44 am1198_47 am1199_50 am11910_53 am11911_56 am11912_59 am11913_62 am11914_65 am11915_68 am11916_71 => (kk f0_openSet_8 f0_state_9 f0_votes_10 f0_heard_11 f0_names_12 f0_name_13 f0_slot_14 f0_parts_15 f0_trouble_16 f0_troubled_17 f0_happened_18 f0_commitCount_19 f0_first_20 f0_waiting_21 f0_sent_22 f0_lostCount_23 am1191_26 am1192_29 am1193_32 am1194_35 am1195_38 am1196_41 am1197_44 am1198_47 am1199_50 am11910_53 am11911_56 am11912_59 am11913_62 am11914_65 am11915_68 am11916_71)) f0_openSet f0_state f0_votes f0_heard f0_names f0_name f0_slot f0_parts f0_trouble f0_troubled f0_happened f0_commitCount f0_first f0_waiting f0_sent f0_lostCount a1 a2 a3 a4 a5 a6 a7 a8 a9 a10 a11 a12 a13 a14 a15 a16 z0 3 x2)
theorem zr_X_hearAsLeader_117 {c : Nat} (hc : c ≤ 1023) {post : St2 → Prop} {kk : Nat → Nat → Nat → Nat → Nat → Nat → Nat → Nat → Nat → Nat → Nat → Nat → Nat → Nat → Nat → Nat → Nat → Nat → Nat → Nat → Nat → Nat → Nat → Nat → Nat → Nat → Nat → Nat → Nat → Nat → Nat → Nat → Bool} {x2 z0 f0_openSet f0_state f0_votes f0_heard f0_names f0_name f0_slot f0_parts f0_trouble f0_troubled f0_happened f0_commitCount f0_first f0_waiting f0_sent f0_lostCount a1 a2 a3 a4 a5 a6 a7 a8 a9 a10 a11 a12 a13 a14 a15 a16 : Nat} {X_x2 : Int32} (e_x2 : X_x2 = nI x2) {X_z0 : Int32} (e_z0 : X_z0 = nI z0) (h : zq_X_hearAsLeader_117 kk x2 z0 f0_openSet f0_state f0_votes f0_heard f0_names f0_name f0_slot f0_parts f0_trouble f0_troubled f0_happened f0_commitCount f0_first f0_waiting f0_sent f0_lostCount a1 a2 a3 a4 a5 a6 a7 a8 a9 a10 a11 a12 a13 a14 a15 a16 = true) (hk : ∀ {f1 f2 f3 f4 f5 f6 f7 f8 f9 f10 f11 f12 f13 f14 f15 f16 b1 b2 b3 b4 b5 b6 b7 b8 b9 b10 b11 b12 b13 b14 b15 b16 : Nat}, kk f1 f2 f3 f4 f5 f6 f7 f8 f9 f10 f11 f12 f13 f14 f15 f16 b1 b2 b3 b4 b5 b6 b7 b8 b9 b10 b11 b12 b13 b14 b15 b16 = true → post ((nI f1), (nI f2), (nI f3), (nI f4), (nI f5), (nI f6), (nI f7), (nI f8), (nI f9), (nI f10), (nI f11), (nI f12), (nI f13), (nI f14), (nI f15), (nI f16), (zb_va c b1), (zb_ka b2), (zb_ka b3), (zb_ka b4), (zb_ka b5), (zb_va c b6), (zb_va c b7), (zb_ka b8), (zb_ka b9), (zb_va c b10), (zb_ka b11), (zb_ka b12), (zb_ka b13), (zb_ka b14), (zb_ka b15), (zb_ka b16))) : wX_hearAsLeader_117 post X_x2 X_z0 (nI f0_openSet) (nI f0_state) (nI f0_votes) (nI f0_heard) (nI f0_names) (nI f0_name) (nI f0_slot) (nI f0_parts) (nI f0_trouble) (nI f0_troubled) (nI f0_happened) (nI f0_commitCount) (nI f0_first) (nI f0_waiting) (nI f0_sent) (nI f0_lostCount) (zb_va c a1) (zb_ka a2) (zb_ka a3) (zb_ka a4) (zb_ka a5) (zb_va c a6) (zb_va c a7) (zb_ka a8) (zb_ka a9) (zb_va c a10) (zb_ka a11) (zb_ka a12) (zb_ka a13) (zb_ka a14) (zb_ka a15) (zb_ka a16) := by
  subst e_x2
  subst e_z0
  unfold zq_X_hearAsLeader_117 at h
  unfold wX_hearAsLeader_117
  refine zr_pX_send hc rfl (rfl : (3 : Int32) = nI 3) rfl h ?_
  intro f0_openSet_8 f0_state_9 f0_votes_10 f0_heard_11 f0_names_12 f0_name_13 f0_slot_14 f0_parts_15 f0_trouble_16 f0_troubled_17 f0_happened_18 f0_commitCount_19 f0_first_20 f0_waiting_21 f0_sent_22 f0_lostCount_23 am1191_26 am1192_29 am1193_32 am1194_35 am1195_38 am1196_41 am1197_44 am1198_47 am1199_50 am11910_53 am11911_56 am11912_59 am11913_62 am11914_65 am11915_68 am11916_71 h
  exact hk h
noncomputable def zq_X_hearAsLeader_90 (kk : Nat → Nat → Nat → Nat → Nat → Nat → Nat → Nat → Nat → Nat → Nat → Nat → Nat → Nat → Nat → Nat → Nat → Nat → Nat → Nat → Nat → Nat → Nat → Nat → Nat → Nat → Nat → Nat → Nat → Nat → Nat → Nat → Bool) (x1 x2 f0_openSet f0_state f0_votes f0_heard f0_names f0_name f0_slot f0_parts f0_trouble f0_troubled f0_happened f0_commitCount f0_first f0_waiting f0_sent f0_lostCount a1 a2 a3 a4 a5 a6 a7 a8 a9 a10 a11 a12 a13 a14 a15 a16 : Nat) : Bool := (zb_if (zb_eq x1 7) (zq_pX_isLogged (fun r_5 => (zb_if (zb_eq r_5 0) (zq_X_hearAsLeader_117 kk x2 5 f0_openSet f0_state f0_votes f0_heard f0_names f0_name f0_slot f0_parts f0_trouble f0_troubled f0_happened f0_commitCount f0_first f0_waiting f0_sent f0_lostCount a1 a2 a3 a4 a5 a6 a7 a8 a9 a10 a11 a12 a13 a14 a15 a16) (zq_X_hearAsLeader_117 kk x2 4 f0_openSet f0_state f0_votes f0_heard f0_names f0_name f0_slot f0_parts f0_trouble f0_troubled f0_happened f0_commitCount f0_first f0_waiting f0_sent f0_lostCount a1 a2 a3 a4 a5 a6 a7 a8 a9 a10 a11 a12 a13 a14 a15 a16))) f0_openSet f0_state f0_votes f0_heard f0_names f0_name f0_slot f0_parts f0_trouble f0_troubled f0_happened f0_commitCount f0_first f0_waiting f0_sent f0_lostCount a1 a2 a3 a4 a5 a6 a7 a8 a9 a10 a11 a12 a13 a14 a15 a16 3 5 f0_name) (kk f0_openSet f0_state f0_votes f0_heard f0_names f0_name f0_slot f0_parts f0_trouble f0_troubled f0_happened f0_commitCount f0_first f0_waiting f0_sent f0_lostCount a1 a2 a3 a4 a5 a6 a7 a8 a9 a10 a11 a12 a13 a14 a15 a16))
theorem zr_X_hearAsLeader_90 {c : Nat} (hc : c ≤ 1023) {post : St2 → Prop} {kk : Nat → Nat → Nat → Nat → Nat → Nat → Nat → Nat → Nat → Nat → Nat → Nat → Nat → Nat → Nat → Nat → Nat → Nat → Nat → Nat → Nat → Nat → Nat → Nat → Nat → Nat → Nat → Nat → Nat → Nat → Nat → Nat → Bool} {x1 x2 f0_openSet f0_state f0_votes f0_heard f0_names f0_name f0_slot f0_parts f0_trouble f0_troubled f0_happened f0_commitCount f0_first f0_waiting f0_sent f0_lostCount a1 a2 a3 a4 a5 a6 a7 a8 a9 a10 a11 a12 a13 a14 a15 a16 : Nat} {X_x1 : Int32} (e_x1 : X_x1 = nI x1) {X_x2 : Int32} (e_x2 : X_x2 = nI x2) (h : zq_X_hearAsLeader_90 kk x1 x2 f0_openSet f0_state f0_votes f0_heard f0_names f0_name f0_slot f0_parts f0_trouble f0_troubled f0_happened f0_commitCount f0_first f0_waiting f0_sent f0_lostCount a1 a2 a3 a4 a5 a6 a7 a8 a9 a10 a11 a12 a13 a14 a15 a16 = true) (hk : ∀ {f1 f2 f3 f4 f5 f6 f7 f8 f9 f10 f11 f12 f13 f14 f15 f16 b1 b2 b3 b4 b5 b6 b7 b8 b9 b10 b11 b12 b13 b14 b15 b16 : Nat}, kk f1 f2 f3 f4 f5 f6 f7 f8 f9 f10 f11 f12 f13 f14 f15 f16 b1 b2 b3 b4 b5 b6 b7 b8 b9 b10 b11 b12 b13 b14 b15 b16 = true → post ((nI f1), (nI f2), (nI f3), (nI f4), (nI f5), (nI f6), (nI f7), (nI f8), (nI f9), (nI f10), (nI f11), (nI f12), (nI f13), (nI f14), (nI f15), (nI f16), (zb_va c b1), (zb_ka b2), (zb_ka b3), (zb_ka b4), (zb_ka b5), (zb_va c b6), (zb_va c b7), (zb_ka b8), (zb_ka b9), (zb_va c b10), (zb_ka b11), (zb_ka b12), (zb_ka b13), (zb_ka b14), (zb_ka b15), (zb_ka b16))) : wX_hearAsLeader_90 post X_x1 X_x2 (nI f0_openSet) (nI f0_state) (nI f0_votes) (nI f0_heard) (nI f0_names) (nI f0_name) (nI f0_slot) (nI f0_parts) (nI f0_trouble) (nI f0_troubled) (nI f0_happened) (nI f0_commitCount) (nI f0_first) (nI f0_waiting) (nI f0_sent) (nI f0_lostCount) (zb_va c a1) (zb_ka a2) (zb_ka a3) (zb_ka a4) (zb_ka a5) (zb_va c a6) (zb_va c a7) (zb_ka a8) (zb_ka a9) (zb_va c a10) (zb_ka a11) (zb_ka a12) (zb_ka a13) (zb_ka a14) (zb_ka a15) (zb_ka a16) := by
  subst e_x1
  subst e_x2
  unfold zq_X_hearAsLeader_90 at h
  unfold wX_hearAsLeader_90
  refine zb_if_ok (zb_eqP rfl (rfl : (7 : Int32) = nI 7)) h ?_ ?_
  · intro h
    refine zr_pX_isLogged hc (rfl : (3 : Int32) = nI 3) (rfl : (5 : Int32) = nI 5) rfl h ?_
    intro r_5 R_ eR_ h
    subst eR_
    refine zb_if_ok (zb_eqP rfl (rfl : (0 : Int32) = nI 0)) h ?_ ?_
    · intro h
      exact zr_X_hearAsLeader_117 hc rfl (rfl : (5 : Int32) = nI 5) h hk
    · intro h
      exact zr_X_hearAsLeader_117 hc rfl (rfl : (4 : Int32) = nI 4) h hk
  · intro h
    exact hk h
noncomputable def zq_X_hearAsLeader_75 (kk : Nat → Nat → Nat → Nat → Nat → Nat → Nat → Nat → Nat → Nat → Nat → Nat → Nat → Nat → Nat → Nat → Nat → Nat → Nat → Nat → Nat → Nat → Nat → Nat → Nat → Nat → Nat → Nat → Nat → Nat → Nat → Nat → Bool) (x2 f0_openSet f0_state f0_votes f0_heard f0_names f0_name f0_slot f0_parts f0_trouble f0_troubled f0_happened f0_commitCount f0_first f0_waiting f0_sent f0_lostCount a1 a2 a3 a4 a5 a6 a7 a8 a9 a10 a11 a12 a13 a14 a15 a16 : Nat) : Bool := (zb_let (Nat.lor f0_heard (zb_shl 1 x2)) (fun f_73 => (kk f0_openSet f0_state f0_votes f_73 f0_names f0_name f0_slot f0_parts f0_trouble f0_troubled f0_happened f0_commitCount f0_first f0_waiting f0_sent f0_lostCount a1 a2 a3 a4 a5 a6 a7 a8 a9 a10 a11 a12 a13 a14 a15 a16)))
theorem zr_X_hearAsLeader_75 {c : Nat} (hc : c ≤ 1023) {post : St2 → Prop} {kk : Nat → Nat → Nat → Nat → Nat → Nat → Nat → Nat → Nat → Nat → Nat → Nat → Nat → Nat → Nat → Nat → Nat → Nat → Nat → Nat → Nat → Nat → Nat → Nat → Nat → Nat → Nat → Nat → Nat → Nat → Nat → Nat → Bool} {x2 f0_openSet f0_state f0_votes f0_heard f0_names f0_name f0_slot f0_parts f0_trouble f0_troubled f0_happened f0_commitCount f0_first f0_waiting f0_sent f0_lostCount a1 a2 a3 a4 a5 a6 a7 a8 a9 a10 a11 a12 a13 a14 a15 a16 : Nat} {X_x2 : Int32} (e_x2 : X_x2 = nI x2) (h : zq_X_hearAsLeader_75 kk x2 f0_openSet f0_state f0_votes f0_heard f0_names f0_name f0_slot f0_parts f0_trouble f0_troubled f0_happened f0_commitCount f0_first f0_waiting f0_sent f0_lostCount a1 a2 a3 a4 a5 a6 a7 a8 a9 a10 a11 a12 a13 a14 a15 a16 = true) (hk : ∀ {f1 f2 f3 f4 f5 f6 f7 f8 f9 f10 f11 f12 f13 f14 f15 f16 b1 b2 b3 b4 b5 b6 b7 b8 b9 b10 b11 b12 b13 b14 b15 b16 : Nat}, kk f1 f2 f3 f4 f5 f6 f7 f8 f9 f10 f11 f12 f13 f14 f15 f16 b1 b2 b3 b4 b5 b6 b7 b8 b9 b10 b11 b12 b13 b14 b15 b16 = true → post ((nI f1), (nI f2), (nI f3), (nI f4), (nI f5), (nI f6), (nI f7), (nI f8), (nI f9), (nI f10), (nI f11), (nI f12), (nI f13), (nI f14), (nI f15), (nI f16), (zb_va c b1), (zb_ka b2), (zb_ka b3), (zb_ka b4), (zb_ka b5), (zb_va c b6), (zb_va c b7), (zb_ka b8), (zb_ka b9), (zb_va c b10), (zb_ka b11), (zb_ka b12), (zb_ka b13), (zb_ka b14), (zb_ka b15), (zb_ka b16))) : wX_hearAsLeader_75 post X_x2 (nI f0_openSet) (nI f0_state) (nI f0_votes) (nI f0_heard) (nI f0_names) (nI f0_name) (nI f0_slot) (nI f0_parts) (nI f0_trouble) (nI f0_troubled) (nI f0_happened) (nI f0_commitCount) (nI f0_first) (nI f0_waiting) (nI f0_sent) (nI f0_lostCount) (zb_va c a1) (zb_ka a2) (zb_ka a3) (zb_ka a4) (zb_ka a5) (zb_va c a6) (zb_va c a7) (zb_ka a8) (zb_ka a9) (zb_va c a10) (zb_ka a11) (zb_ka a12) (zb_ka a13) (zb_ka a14) (zb_ka a15) (zb_ka a16) := by
  subst e_x2
  unfold zq_X_hearAsLeader_75 at h
  unfold wX_hearAsLeader_75
  refine zb_let_k h (zb_orP rfl (zb_shlP (rfl : (1 : Int32) = nI 1) rfl)) ?_
  intro h
  exact hk h
noncomputable def zq_X_hearAsLeader_53 (kk : Nat → Nat → Nat → Nat → Nat → Nat → Nat → Nat → Nat → Nat → Nat → Nat → Nat → Nat → Nat → Nat → Nat → Nat → Nat → Nat → Nat → Nat → Nat → Nat → Nat → Nat → Nat → Nat → Nat → Nat → Nat → Nat → Bool) (x1 x2 f0_openSet f0_state f0_votes f0_heard f0_names f0_name f0_slot f0_parts f0_trouble f0_troubled f0_happened f0_commitCount f0_first f0_waiting f0_sent f0_lostCount a1 a2 a3 a4 a5 a6 a7 a8 a9 a10 a11 a12 a13 a14 a15 a16 : Nat) : Bool := (zb_if (zb_eq x1 6) (zb_if (zb_eq f0_state 2) (zq_X_hearAsLeader_75 kk x2 f0_openSet f0_state f0_votes f0_heard f0_names f0_name f0_slot f0_parts f0_trouble f0_troubled f0_happened f0_commitCount f0_first f0_waiting f0_sent f0_lostCount a1 a2 a3 a4 a5 a6 a7 a8 a9 a10 a11 a12 a13 a14 a15 a16) (zb_if (zb_eq f0_state 3) (zq_X_hearAsLeader_75 kk x2 f0_openSet f0_state f0_votes f0_heard f0_names f0_name f0_slot f0_parts f0_trouble f0_troubled f0_happened f0_commitCount f0_first f0_waiting f0_sent f0_lostCount a1 a2 a3 a4 a5 a6 a7 a8 a9 a10 a11 a12 a13 a14 a15 a16) (zq_X_hearAsLeader_90 kk x1 x2 f0_openSet f0_state f0_votes f0_heard f0_names f0_name f0_slot f0_parts f0_trouble f0_troubled f0_happened f0_commitCount f0_first f0_waiting f0_sent f0_lostCount a1 a2 a3 a4 a5 a6 a7 a8 a9 a10 a11 a12 a13 a14 a15 a16))) (zq_X_hearAsLeader_90 kk x1 x2 f0_openSet f0_state f0_votes f0_heard f0_names f0_name f0_slot f0_parts f0_trouble f0_troubled f0_happened f0_commitCount f0_first f0_waiting f0_sent f0_lostCount a1 a2 a3 a4 a5 a6 a7 a8 a9 a10 a11 a12 a13 a14 a15 a16))
theorem zr_X_hearAsLeader_53 {c : Nat} (hc : c ≤ 1023) {post : St2 → Prop} {kk : Nat → Nat → Nat → Nat → Nat → Nat → Nat → Nat → Nat → Nat → Nat → Nat → Nat → Nat → Nat → Nat → Nat → Nat → Nat → Nat → Nat → Nat → Nat → Nat → Nat → Nat → Nat → Nat → Nat → Nat → Nat → Nat → Bool} {x1 x2 f0_openSet f0_state f0_votes f0_heard f0_names f0_name f0_slot f0_parts f0_trouble f0_troubled f0_happened f0_commitCount f0_first f0_waiting f0_sent f0_lostCount a1 a2 a3 a4 a5 a6 a7 a8 a9 a10 a11 a12 a13 a14 a15 a16 : Nat} {X_x1 : Int32} (e_x1 : X_x1 = nI x1) {X_x2 : Int32} (e_x2 : X_x2 = nI x2) (h : zq_X_hearAsLeader_53 kk x1 x2 f0_openSet f0_state f0_votes f0_heard f0_names f0_name f0_slot f0_parts f0_trouble f0_troubled f0_happened f0_commitCount f0_first f0_waiting f0_sent f0_lostCount a1 a2 a3 a4 a5 a6 a7 a8 a9 a10 a11 a12 a13 a14 a15 a16 = true) (hk : ∀ {f1 f2 f3 f4 f5 f6 f7 f8 f9 f10 f11 f12 f13 f14 f15 f16 b1 b2 b3 b4 b5 b6 b7 b8 b9 b10 b11 b12 b13 b14 b15 b16 : Nat}, kk f1 f2 f3 f4 f5 f6 f7 f8 f9 f10 f11 f12 f13 f14 f15 f16 b1 b2 b3 b4 b5 b6 b7 b8 b9 b10 b11 b12 b13 b14 b15 b16 = true → post ((nI f1), (nI f2), (nI f3), (nI f4), (nI f5), (nI f6), (nI f7), (nI f8), (nI f9), (nI f10), (nI f11), (nI f12), (nI f13), (nI f14), (nI f15), (nI f16), (zb_va c b1), (zb_ka b2), (zb_ka b3), (zb_ka b4), (zb_ka b5), (zb_va c b6), (zb_va c b7), (zb_ka b8), (zb_ka b9), (zb_va c b10), (zb_ka b11), (zb_ka b12), (zb_ka b13), (zb_ka b14), (zb_ka b15), (zb_ka b16))) : wX_hearAsLeader_53 post X_x1 X_x2 (nI f0_openSet) (nI f0_state) (nI f0_votes) (nI f0_heard) (nI f0_names) (nI f0_name) (nI f0_slot) (nI f0_parts) (nI f0_trouble) (nI f0_troubled) (nI f0_happened) (nI f0_commitCount) (nI f0_first) (nI f0_waiting) (nI f0_sent) (nI f0_lostCount) (zb_va c a1) (zb_ka a2) (zb_ka a3) (zb_ka a4) (zb_ka a5) (zb_va c a6) (zb_va c a7) (zb_ka a8) (zb_ka a9) (zb_va c a10) (zb_ka a11) (zb_ka a12) (zb_ka a13) (zb_ka a14) (zb_ka a15) (zb_ka a16) := by
  subst e_x1
  subst e_x2
  unfold zq_X_hearAsLeader_53 at h
  unfold wX_hearAsLeader_53
  refine zb_if_ok (zb_eqP rfl (rfl : (6 : Int32) = nI 6)) h ?_ ?_
  · intro h
    refine zb_if_ok (zb_eqP rfl (rfl : (2 : Int32) = nI 2)) h ?_ ?_
    · intro h
      exact zr_X_hearAsLeader_75 hc rfl h hk
    · intro h
      refine zb_if_ok (zb_eqP rfl (rfl : (3 : Int32) = nI 3)) h ?_ ?_
      · intro h
        exact zr_X_hearAsLeader_75 hc rfl h hk
      · intro h
        exact zr_X_hearAsLeader_90 hc rfl rfl h hk
  · intro h
    exact zr_X_hearAsLeader_90 hc rfl rfl h hk
noncomputable def zq_X_hearAsLeader_32 (kk : Nat → Nat → Nat → Nat → Nat → Nat → Nat → Nat → Nat → Nat → Nat → Nat → Nat → Nat → Nat → Nat → Nat → Nat → Nat → Nat → Nat → Nat → Nat → Nat → Nat → Nat → Nat → Nat → Nat → Nat → Nat → Nat → Bool) (x1 x2 f0_openSet f0_state f0_votes f0_heard f0_names f0_name f0_slot f0_parts f0_trouble f0_troubled f0_happened f0_commitCount f0_first f0_waiting f0_sent f0_lostCount a1 a2 a3 a4 a5 a6 a7 a8 a9 a10 a11 a12 a13 a14 a15 a16 : Nat) : Bool := (zb_if (zb_eq x1 3) (zb_if (zb_eq f0_state 1) (kk f0_openSet 3 f0_votes f0_heard f0_names f0_name f0_slot f0_parts f0_trouble f0_troubled f0_happened f0_commitCount f0_first f0_waiting f0_sent f0_lostCount a1 a2 a3 a4 a5 a6 a7 a8 a9 a10 a11 a12 a13 a14 a15 a16) (zq_X_hearAsLeader_53 kk x1 x2 f0_openSet f0_state f0_votes f0_heard f0_names f0_name f0_slot f0_parts f0_trouble f0_troubled f0_happened f0_commitCount f0_first f0_waiting f0_sent f0_lostCount a1 a2 a3 a4 a5 a6 a7 a8 a9 a10 a11 a12 a13 a14 a15 a16)) (zq_X_hearAsLeader_53 kk x1 x2 f0_openSet f0_state f0_votes f0_heard f0_names f0_name f0_slot f0_parts f0_trouble f0_troubled f0_happened f0_commitCount f0_first f0_waiting f0_sent f0_lostCount a1 a2 a3 a4 a5 a6 a7 a8 a9 a10 a11 a12 a13 a14 a15 a16))
theorem zr_X_hearAsLeader_32 {c : Nat} (hc : c ≤ 1023) {post : St2 → Prop} {kk : Nat → Nat → Nat → Nat → Nat → Nat → Nat → Nat → Nat → Nat → Nat → Nat → Nat → Nat → Nat → Nat → Nat → Nat → Nat → Nat → Nat → Nat → Nat → Nat → Nat → Nat → Nat → Nat → Nat → Nat → Nat → Nat → Bool} {x1 x2 f0_openSet f0_state f0_votes f0_heard f0_names f0_name f0_slot f0_parts f0_trouble f0_troubled f0_happened f0_commitCount f0_first f0_waiting f0_sent f0_lostCount a1 a2 a3 a4 a5 a6 a7 a8 a9 a10 a11 a12 a13 a14 a15 a16 : Nat} {X_x1 : Int32} (e_x1 : X_x1 = nI x1) {X_x2 : Int32} (e_x2 : X_x2 = nI x2) (h : zq_X_hearAsLeader_32 kk x1 x2 f0_openSet f0_state f0_votes f0_heard f0_names f0_name f0_slot f0_parts f0_trouble f0_troubled f0_happened f0_commitCount f0_first f0_waiting f0_sent f0_lostCount a1 a2 a3 a4 a5 a6 a7 a8 a9 a10 a11 a12 a13 a14 a15 a16 = true) (hk : ∀ {f1 f2 f3 f4 f5 f6 f7 f8 f9 f10 f11 f12 f13 f14 f15 f16 b1 b2 b3 b4 b5 b6 b7 b8 b9 b10 b11 b12 b13 b14 b15 b16 : Nat}, kk f1 f2 f3 f4 f5 f6 f7 f8 f9 f10 f11 f12 f13 f14 f15 f16 b1 b2 b3 b4 b5 b6 b7 b8 b9 b10 b11 b12 b13 b14 b15 b16 = true → post ((nI f1), (nI f2), (nI f3), (nI f4), (nI f5), (nI f6), (nI f7), (nI f8), (nI f9), (nI f10), (nI f11), (nI f12), (nI f13), (nI f14), (nI f15), (nI f16), (zb_va c b1), (zb_ka b2), (zb_ka b3), (zb_ka b4), (zb_ka b5), (zb_va c b6), (zb_va c b7), (zb_ka b8), (zb_ka b9), (zb_va c b10), (zb_ka b11), (zb_ka b12), (zb_ka b13), (zb_ka b14), (zb_ka b15), (zb_ka b16))) : wX_hearAsLeader_32 post X_x1 X_x2 (nI f0_openSet) (nI f0_state) (nI f0_votes) (nI f0_heard) (nI f0_names) (nI f0_name) (nI f0_slot) (nI f0_parts) (nI f0_trouble) (nI f0_troubled) (nI f0_happened) (nI f0_commitCount) (nI f0_first) (nI f0_waiting) (nI f0_sent) (nI f0_lostCount) (zb_va c a1) (zb_ka a2) (zb_ka a3) (zb_ka a4) (zb_ka a5) (zb_va c a6) (zb_va c a7) (zb_ka a8) (zb_ka a9) (zb_va c a10) (zb_ka a11) (zb_ka a12) (zb_ka a13) (zb_ka a14) (zb_ka a15) (zb_ka a16) := by
  subst e_x1
  subst e_x2
  unfold zq_X_hearAsLeader_32 at h
  unfold wX_hearAsLeader_32
  refine zb_if_ok (zb_eqP rfl (rfl : (3 : Int32) = nI 3)) h ?_ ?_
  · intro h
    refine zb_if_ok (zb_eqP rfl (rfl : (1 : Int32) = nI 1)) h ?_ ?_
    · intro h
      exact hk h
    · intro h
      exact zr_X_hearAsLeader_53 hc rfl rfl h hk
  · intro h
    exact zr_X_hearAsLeader_53 hc rfl rfl h hk
noncomputable def zq_pX_hearAsLeader (kk : Nat → Nat → Nat → Nat → Nat → Nat → Nat → Nat → Nat → Nat → Nat → Nat → Nat → Nat → Nat → Nat → Nat → Nat → Nat → Nat → Nat → Nat → Nat → Nat → Nat → Nat → Nat → Nat → Nat → Nat → Nat → Nat → Bool) (f0_openSet f0_state f0_votes f0_heard f0_names f0_name f0_slot f0_parts f0_trouble f0_troubled f0_happened f0_commitCount f0_first f0_waiting f0_sent f0_lostCount a1 a2 a3 a4 a5 a6 a7 a8 a9 a10 a11 a12 a13 a14 a15 a16 p0 p1 : Nat) : Bool := (zb_if (zb_eq p0 2) (zb_if (zb_eq f0_state 1) (zb_let (Nat.lor f0_votes (zb_shl 1 p1)) (fun f_77 => (zq_pX_decideIfReady (fun f0_openSet_79 f0_state_80 f0_votes_81 f0_heard_82 f0_names_83 f0_name_84 f0_slot_85 f0_parts_86 f0_trouble_87 f0_troubled_88 f0_happened_89 f0_commitCount_90 f0_first_91 f0_waiting_92 f0_sent_93 f0_lostCount_94 am261_97 am262_100 am263_103 am264_106 am265_109 am266_112 am267_115 am268_118 am269_121 am2610_124 am2611_127 am2612_130 am2613_133 am2614_136 am2615_139 am2616_142 => (kk f0_openSet_79 f0_state_80 f0_votes_81 f0_heard_82 f0_names_83 f0_name_84 f0_slot_85 f0_parts_86 f0_trouble_87 f0_troubled_88 f0_happened_89 f0_commitCount_90 f0_first_91 f0_waiting_92 f0_sent_93 f0_lostCount_94 am261_97 am262_100 am263_103 am264_106 am265_109 am266_112 am267_115 am268_118 am269_121 am2610_124 am2611_127 am2612_130 am2613_133 am2614_136 am2615_139 am2616_142)) f0_openSet f0_state f_77 f0_heard f0_names f0_name f0_slot f0_parts f0_trouble f0_troubled f0_happened f0_commitCount f0_first f0_waiting f0_sent f0_lostCount a1 a2 a3 a4 a5 a6 a7 a8 a9 a10 a11 a12 a13 a14 a15 a16))) (zq_X_hearAsLeader_32 kk p0 p1 f0_openSet f0_state f0_votes f0_heard f0_names f0_name f0_slot f0_parts f0_trouble f0_troubled f0_happened f0_commitCount f0_first f0_waiting f0_sent f0_lostCount a1 a2 a3 a4 a5 a6 a7 a8 a9 a10 a11 a12 a13 a14 a15 a16)) (zq_X_hearAsLeader_32 kk p0 p1 f0_openSet f0_state f0_votes f0_heard f0_names f0_name f0_slot f0_parts f0_trouble f0_troubled f0_happened f0_commitCount f0_first f0_waiting f0_sent f0_lostCount a1 a2 a3 a4 a5 a6 a7 a8 a9 a10 a11 a12 a13 a14 a15 a16))
theorem zr_pX_hearAsLeader {c : Nat} (hc : c ≤ 1023) {post : St2 → Prop} {kk : Nat → Nat → Nat → Nat → Nat → Nat → Nat → Nat → Nat → Nat → Nat → Nat → Nat → Nat → Nat → Nat → Nat → Nat → Nat → Nat → Nat → Nat → Nat → Nat → Nat → Nat → Nat → Nat → Nat → Nat → Nat → Nat → Bool} {f0_openSet f0_state f0_votes f0_heard f0_names f0_name f0_slot f0_parts f0_trouble f0_troubled f0_happened f0_commitCount f0_first f0_waiting f0_sent f0_lostCount a1 a2 a3 a4 a5 a6 a7 a8 a9 a10 a11 a12 a13 a14 a15 a16 p0 p1 : Nat} {X_p0 : Int32} (e_p0 : X_p0 = nI p0) {X_p1 : Int32} (e_p1 : X_p1 = nI p1) (h : zq_pX_hearAsLeader kk f0_openSet f0_state f0_votes f0_heard f0_names f0_name f0_slot f0_parts f0_trouble f0_troubled f0_happened f0_commitCount f0_first f0_waiting f0_sent f0_lostCount a1 a2 a3 a4 a5 a6 a7 a8 a9 a10 a11 a12 a13 a14 a15 a16 p0 p1 = true) (hk : ∀ {f1 f2 f3 f4 f5 f6 f7 f8 f9 f10 f11 f12 f13 f14 f15 f16 b1 b2 b3 b4 b5 b6 b7 b8 b9 b10 b11 b12 b13 b14 b15 b16 : Nat}, kk f1 f2 f3 f4 f5 f6 f7 f8 f9 f10 f11 f12 f13 f14 f15 f16 b1 b2 b3 b4 b5 b6 b7 b8 b9 b10 b11 b12 b13 b14 b15 b16 = true → post ((nI f1), (nI f2), (nI f3), (nI f4), (nI f5), (nI f6), (nI f7), (nI f8), (nI f9), (nI f10), (nI f11), (nI f12), (nI f13), (nI f14), (nI f15), (nI f16), (zb_va c b1), (zb_ka b2), (zb_ka b3), (zb_ka b4), (zb_ka b5), (zb_va c b6), (zb_va c b7), (zb_ka b8), (zb_ka b9), (zb_va c b10), (zb_ka b11), (zb_ka b12), (zb_ka b13), (zb_ka b14), (zb_ka b15), (zb_ka b16))) : wpX_hearAsLeader post ((nI f0_openSet), (nI f0_state), (nI f0_votes), (nI f0_heard), (nI f0_names), (nI f0_name), (nI f0_slot), (nI f0_parts), (nI f0_trouble), (nI f0_troubled), (nI f0_happened), (nI f0_commitCount), (nI f0_first), (nI f0_waiting), (nI f0_sent), (nI f0_lostCount), (zb_va c a1), (zb_ka a2), (zb_ka a3), (zb_ka a4), (zb_ka a5), (zb_va c a6), (zb_va c a7), (zb_ka a8), (zb_ka a9), (zb_va c a10), (zb_ka a11), (zb_ka a12), (zb_ka a13), (zb_ka a14), (zb_ka a15), (zb_ka a16)) X_p0 X_p1 := by
  subst e_p0
  subst e_p1
  unfold zq_pX_hearAsLeader at h
  unfold wpX_hearAsLeader
  refine zb_if_ok (zb_eqP rfl (rfl : (2 : Int32) = nI 2)) h ?_ ?_
  · intro h
    refine zb_if_ok (zb_eqP rfl (rfl : (1 : Int32) = nI 1)) h ?_ ?_
    · intro h
      refine zb_let_k h (zb_orP rfl (zb_shlP (rfl : (1 : Int32) = nI 1) rfl)) ?_
      intro h
      refine zr_pX_decideIfReady hc h ?_
      intro f0_openSet_79 f0_state_80 f0_votes_81 f0_heard_82 f0_names_83 f0_name_84 f0_slot_85 f0_parts_86 f0_trouble_87 f0_troubled_88 f0_happened_89 f0_commitCount_90 f0_first_91 f0_waiting_92 f0_sent_93 f0_lostCount_94 am261_97 am262_100 am263_103 am264_106 am265_109 am266_112 am267_115 am268_118 am269_121 am2610_124 am2611_127 am2612_130 am2613_133 am2614_136 am2615_139 am2616_142 h
      exact hk h
    · intro h
      exact zr_X_hearAsLeader_32 hc rfl rfl h hk
  · intro h
    exact zr_X_hearAsLeader_32 hc rfl rfl h hk
noncomputable def zq_pX_deliver (kk : Nat → Nat → Nat → Nat → Nat → Nat → Nat → Nat → Nat → Nat → Nat → Nat → Nat → Nat → Nat → Nat → Nat → Nat → Nat → Nat → Nat → Nat → Nat → Nat → Nat → Nat → Nat → Nat → Nat → Nat → Nat → Nat → Bool) (f0_openSet f0_state f0_votes f0_heard f0_names f0_name f0_slot f0_parts f0_trouble f0_troubled f0_happened f0_commitCount f0_first f0_waiting f0_sent f0_lostCount a1 a2 a3 a4 a5 a6 a7 a8 a9 a10 a11 a12 a13 a14 a15 a16 : Nat) : Bool := (zb_g (zb_nn (Nat.add f0_first 1)) (zb_let (zb_rem (Nat.add f0_first 1) 64) (fun f_2 => (zb_let (zb_sub f0_waiting 1) (fun f_3 => (zb_in f0_first 64 (zb_if (zb_eq (zb_rd a16 f0_first) f0_name) (zb_in f0_first 64 (zb_let (zb_rd a14 f0_first) (fun x2_7 => (zb_in f0_first 64 (zb_if (zb_eq (zb_rd a15 f0_first) 3) (zb_in f0_first 64 (zq_pX_hearAsLeader (fun f0_openSet_79 f0_state_80 f0_votes_81 f0_heard_82 f0_names_83 f0_name_84 f0_slot_85 f0_parts_86 f0_trouble_87 f0_troubled_88 f0_happened_89 f0_commitCount_90 f0_first_91 f0_waiting_92 f0_sent_93 f0_lostCount_94 am671_97 am672_100 am673_103 am674_106 am675_109 am676_112 am677_115 am678_118 am679_121 am6710_124 am6711_127 am6712_130 am6713_133 am6714_136 am6715_139 am6716_142 => (kk f0_openSet_79 f0_state_80 f0_votes_81 f0_heard_82 f0_names_83 f0_name_84 f0_slot_85 f0_parts_86 f0_trouble_87 f0_troubled_88 f0_happened_89 f0_commitCount_90 f0_first_91 f0_waiting_92 f0_sent_93 f0_lostCount_94 am671_97 am672_100 am673_103 am674_106 am675_109 am676_112 am677_115 am678_118 am679_121 am6710_124 am6711_127 am6712_130 am6713_133 am6714_136 am6715_139 am6716_142)) f0_openSet f0_state f0_votes f0_heard f0_names f0_name f0_slot f0_parts f0_trouble f0_troubled f0_happened f0_commitCount f_2 f_3 f0_sent f0_lostCount a1 a2 a3 a4 a5 a6 a7 a8 a9 a10 a11 a12 a13 a14 a15 a16 (zb_rd a13 f0_first) x2_7)) (zb_in f0_first 64 (zb_in f0_first 64 (zq_pX_hearAsMachine (fun f0_openSet_13 f0_state_14 f0_votes_15 f0_heard_16 f0_names_17 f0_name_18 f0_slot_19 f0_parts_20 f0_trouble_21 f0_troubled_22 f0_happened_23 f0_commitCount_24 f0_first_25 f0_waiting_26 f0_sent_27 f0_lostCount_28 am861_31 am862_34 am863_37 am864_40 am865_43 am866_46 am867_49 am868_52 am869_55 am8610_58 am8611_61 am8612_64 am8613_67 am8614_70 am8615_73 am8616_76 => (kk f0_openSet_13 f0_state_14 f0_votes_15 f0_heard_16 f0_names_17 f0_name_18 f0_slot_19 f0_parts_20 f0_trouble_21 f0_troubled_22 f0_happened_23 f0_commitCount_24 f0_first_25 f0_waiting_26 f0_sent_27 f0_lostCount_28 am861_31 am862_34 am863_37 am864_40 am865_43 am866_46 am867_49 am868_52 am869_55 am8610_58 am8611_61 am8612_64 am8613_67 am8614_70 am8615_73 am8616_76)) f0_openSet f0_state f0_votes f0_heard f0_names f0_name f0_slot f0_parts f0_trouble f0_troubled f0_happened f0_commitCount f_2 f_3 f0_sent f0_lostCount a1 a2 a3 a4 a5 a6 a7 a8 a9 a10 a11 a12 a13 a14 a15 a16 (zb_rd a13 f0_first) (zb_rd a15 f0_first))))))))) (kk f0_openSet f0_state f0_votes f0_heard f0_names f0_name f0_slot f0_parts f0_trouble f0_troubled f0_happened f0_commitCount f_2 f_3 f0_sent f0_lostCount a1 a2 a3 a4 a5 a6 a7 a8 a9 a10 a11 a12 a13 a14 a15 a16))))))))
theorem zr_pX_deliver {c : Nat} (hc : c ≤ 1023) {post : St2 → Prop} {kk : Nat → Nat → Nat → Nat → Nat → Nat → Nat → Nat → Nat → Nat → Nat → Nat → Nat → Nat → Nat → Nat → Nat → Nat → Nat → Nat → Nat → Nat → Nat → Nat → Nat → Nat → Nat → Nat → Nat → Nat → Nat → Nat → Bool} {f0_openSet f0_state f0_votes f0_heard f0_names f0_name f0_slot f0_parts f0_trouble f0_troubled f0_happened f0_commitCount f0_first f0_waiting f0_sent f0_lostCount a1 a2 a3 a4 a5 a6 a7 a8 a9 a10 a11 a12 a13 a14 a15 a16 : Nat} (h : zq_pX_deliver kk f0_openSet f0_state f0_votes f0_heard f0_names f0_name f0_slot f0_parts f0_trouble f0_troubled f0_happened f0_commitCount f0_first f0_waiting f0_sent f0_lostCount a1 a2 a3 a4 a5 a6 a7 a8 a9 a10 a11 a12 a13 a14 a15 a16 = true) (hk : ∀ {f1 f2 f3 f4 f5 f6 f7 f8 f9 f10 f11 f12 f13 f14 f15 f16 b1 b2 b3 b4 b5 b6 b7 b8 b9 b10 b11 b12 b13 b14 b15 b16 : Nat}, kk f1 f2 f3 f4 f5 f6 f7 f8 f9 f10 f11 f12 f13 f14 f15 f16 b1 b2 b3 b4 b5 b6 b7 b8 b9 b10 b11 b12 b13 b14 b15 b16 = true → post ((nI f1), (nI f2), (nI f3), (nI f4), (nI f5), (nI f6), (nI f7), (nI f8), (nI f9), (nI f10), (nI f11), (nI f12), (nI f13), (nI f14), (nI f15), (nI f16), (zb_va c b1), (zb_ka b2), (zb_ka b3), (zb_ka b4), (zb_ka b5), (zb_va c b6), (zb_va c b7), (zb_ka b8), (zb_ka b9), (zb_va c b10), (zb_ka b11), (zb_ka b12), (zb_ka b13), (zb_ka b14), (zb_ka b15), (zb_ka b16))) : wpX_deliver post ((nI f0_openSet), (nI f0_state), (nI f0_votes), (nI f0_heard), (nI f0_names), (nI f0_name), (nI f0_slot), (nI f0_parts), (nI f0_trouble), (nI f0_troubled), (nI f0_happened), (nI f0_commitCount), (nI f0_first), (nI f0_waiting), (nI f0_sent), (nI f0_lostCount), (zb_va c a1), (zb_ka a2), (zb_ka a3), (zb_ka a4), (zb_ka a5), (zb_va c a6), (zb_va c a7), (zb_ka a8), (zb_ka a9), (zb_va c a10), (zb_ka a11), (zb_ka a12), (zb_ka a13), (zb_ka a14), (zb_ka a15), (zb_ka a16)) := by
  unfold zq_pX_deliver at h
  unfold wpX_deliver
  refine ⟨by decide, ?_⟩
  refine zb_g_ok h ?_
  intro g1 h
  refine zb_let_k h (zb_remP g1 (zb_addP rfl (rfl : (1 : Int32) = nI 1)) (rfl : (64 : Int32) = nI 64)) ?_
  intro h
  refine zb_let_k h (zb_subP rfl (rfl : (1 : Int32) = nI 1)) ?_
  intro h
  refine zb_in_ok rfl (by decide) h ?_
  intro h
  refine zb_if_ok (zb_eqP (zb_rdK rfl) rfl) h ?_ ?_
  · intro h
    refine zb_in_ok rfl (by decide) h ?_
    intro h
    refine zb_let_k h (zb_rdK rfl) ?_
    intro h
    refine zb_in_ok rfl (by decide) h ?_
    intro h
    refine zb_if_ok (zb_eqP (zb_rdK rfl) (rfl : (3 : Int32) = nI 3)) h ?_ ?_
    · intro h
      refine zb_in_ok rfl (by decide) h ?_
      intro h
      refine zr_pX_hearAsLeader hc (zb_rdK rfl) rfl h ?_
      intro f0_openSet_79 f0_state_80 f0_votes_81 f0_heard_82 f0_names_83 f0_name_84 f0_slot_85 f0_parts_86 f0_trouble_87 f0_troubled_88 f0_happened_89 f0_commitCount_90 f0_first_91 f0_waiting_92 f0_sent_93 f0_lostCount_94 am671_97 am672_100 am673_103 am674_106 am675_109 am676_112 am677_115 am678_118 am679_121 am6710_124 am6711_127 am6712_130 am6713_133 am6714_136 am6715_139 am6716_142 h
      exact hk h
    · intro h
      refine zb_in_ok rfl (by decide) h ?_
      intro h
      refine zb_in_ok rfl (by decide) h ?_
      intro h
      refine zr_pX_hearAsMachine hc (zb_rdK rfl) (zb_rdK rfl) h ?_
      intro f0_openSet_13 f0_state_14 f0_votes_15 f0_heard_16 f0_names_17 f0_name_18 f0_slot_19 f0_parts_20 f0_trouble_21 f0_troubled_22 f0_happened_23 f0_commitCount_24 f0_first_25 f0_waiting_26 f0_sent_27 f0_lostCount_28 am861_31 am862_34 am863_37 am864_40 am865_43 am866_46 am867_49 am868_52 am869_55 am8610_58 am8611_61 am8612_64 am8613_67 am8614_70 am8615_73 am8616_76 h
      exact hk h
  · intro h
    exact hk h
end
section
noncomputable def zq_X_commit_132 (kk : Nat → Nat → Nat → Nat → Nat → Nat → Nat → Nat → Nat → Nat → Nat → Nat → Nat → Nat → Nat → Nat → Nat → Nat → Nat → Nat → Nat → Nat → Nat → Nat → Nat → Nat → Nat → Nat → Nat → Nat → Nat → Nat → Nat → Bool) (x1 z0 f0_openSet f0_state f0_votes f0_heard f0_names f0_name f0_slot f0_parts f0_trouble f0_troubled f0_happened f0_commitCount f0_first f0_waiting f0_sent f0_lostCount am691 am692 am693 am694 am695 am696 am697 am698 am699 am6910 am6911 am6912 am6913 am6914 am6915 am6916 : Nat) : Bool := (zq_pX_log (fun f0_openSet_143 f0_state_144 f0_votes_145 f0_heard_146 f0_names_147 f0_name_148 f0_slot_149 f0_parts_150 f0_trouble_151 f0_troubled_152 f0_happened_153 f0_commitCount_154 f0_first_155 f0_waiting_156 f0_sent_157 f0_lostCount_158 am1441_161 am1442_164 am1443_167 am1444_170 am1445_173 am1446_176 am1447_179 am1448_182 am1449_185 am14410_188 am14411_191 am14412_194 am14413_197 am14414_200 am14415_203 am14416_206 => (zq_pX_rollBack (fun f0_openSet_208 f0_state_209 f0_votes_210 f0_heard_211 f0_names_212 f0_name_213 f0_slot_214 f0_parts_215 f0_trouble_216 f0_troubled_217 f0_happened_218 f0_commitCount_219 f0_first_220 f0_waiting_221 f0_sent_222 f0_lostCount_223 am1541_226 am1542_229 am1543_232 am1544_235 am1545_238 am1546_241 am1547_244 am1548_247 am1549_250 am15410_253 am15411_256 am15412_259 am15413_262 am15414_265 am15415_268 am15416_271 => (zb_let (Nat.add f0_commitCount_219 z0) (fun f_272 => (zq_pX_shortenLogs (fun f0_openSet_274 f0_state_275 f0_votes_276 f0_heard_277 f0_names_278 f0_name_279 f0_slot_280 f0_parts_281 f0_trouble_282 f0_troubled_283 f0_happened_284 f0_commitCount_285 f0_first_286 f0_waiting_287 f0_sent_288 f0_lostCount_289 am1691_292 am1692_295 am1693_298 am1694_301 am1695_304 am1696_307 am1697_310 am1698_313 am1699_316 am16910_319 am16911_322 am16912_325 am16913_328 am16914_331 am16915_334 am16916_337 => (kk z0 f0_openSet_274 f0_state_275 f0_votes_276 f0_heard_277 f0_names_278 f0_name_279 f0_slot_280 f0_parts_281 f0_trouble_282 f0_troubled_283 f0_happened_284 f0_commitCount_285 f0_first_286 f0_waiting_287 f0_sent_288 f0_lostCount_289 am1691_292 am1692_295 am1693_298 am1694_301 am1695_304 am1696_307 am1697_310 am1698_313 am1699_316 am16910_319 am16911_322 am16912_325 am16913_328 am16914_331 am16915_334 am16916_337)) f0_openSet_208 f0_state_209 f0_votes_210 f0_heard_211 f0_names_212 f0_name_213 f0_slot_214 f0_parts_215 f0_trouble_216 f0_troubled_217 f0_happened_218 f_272 f0_first_220 f0_waiting_221 f0_sent_222 f0_lostCount_223 am1541_226 am1542_229 am1543_232 am1544_235 am1545_238 am1546_241 am1547_244 am1548_247 am1549_250 am15410_253 am15411_256 am15412_259 am15413_262 am15414_265 am15415_268 am15416_271)))) f0_openSet_143 0 f0_votes_145 f0_heard_146 f0_names_147 f0_name_148 f0_slot_149 f0_parts_150 f0_trouble_151 f0_troubled_152 f0_happened_153 f0_commitCount_154 f0_first_155 f0_waiting_156 f0_sent_157 f0_lostCount_158 am1441_161 am1442_164 am1443_167 am1444_170 am1445_173 am1446_176 am1447_179 am1448_182 am1449_185 am14410_188 am14411_191 am14412_194 am14413_197 am14414_200 am14415_203 am14416_206 x1)) f0_openSet f0_state f0_votes f0_heard f0_names f0_name f0_slot f0_parts f0_trouble f0_troubled f0_happened f0_commitCount f0_first f0_waiting f0_sent f0_lostCount am691 am692 am693 am694 am695 am696 am697 am698 am699 am6910 am6911 am6912 am6913 am6914 am6915 am6916 3 6 f0_name 0 (zb_kv 0))
theorem zr_X_commit_132 {c : Nat} (hc : c ≤ 1023) {post : Int32 → St2 → Prop} {kk : Nat → Nat → Nat → Nat → Nat → Nat → Nat → Nat → Nat → Nat → Nat → Nat → Nat → Nat → Nat → Nat → Nat → Nat → Nat → Nat → Nat → Nat → Nat → Nat → Nat → Nat → Nat → Nat → Nat → Nat → Nat → Nat → Nat → Bool} {x1 z0 f0_openSet f0_state f0_votes f0_heard f0_names f0_name f0_slot f0_parts f0_trouble f0_troubled f0_happened f0_commitCount f0_first f0_waiting f0_sent f0_lostCount am691 am692 am693 am694 am695 am696 am697 am698 am699 am6910 am6911 am6912 am6913 am6914 am6915 am6916 : Nat} {X_x1 : Int32} (e_x1 : X_x1 = nI x1) {X_z0 : Int32} (e_z0 : X_z0 = nI z0) (h : zq_X_commit_132 kk x1 z0 f0_openSet f0_state f0_votes f0_heard f0_names f0_name f0_slot f0_parts f0_trouble f0_troubled f0_happened f0_commitCount f0_first f0_waiting f0_sent f0_lostCount am691 am692 am693 am694 am695 am696 am697 am698 am699 am6910 am6911 am6912 am6913 am6914 am6915 am6916 = true) (hk : ∀ {r_ : Nat} {R_ : Int32}, R_ = nI r_ → ∀ {f1 f2 f3 f4 f5 f6 f7 f8 f9 f10 f11 f12 f13 f14 f15 f16 b1 b2 b3 b4 b5 b6 b7 b8 b9 b10 b11 b12 b13 b14 b15 b16 : Nat}, kk r_ f1 f2 f3 f4 f5 f6 f7 f8 f9 f10 f11 f12 f13 f14 f15 f16 b1 b2 b3 b4 b5 b6 b7 b8 b9 b10 b11 b12 b13 b14 b15 b16 = true → post R_ ((nI f1), (nI f2), (nI f3), (nI f4), (nI f5), (nI f6), (nI f7), (nI f8), (nI f9), (nI f10), (nI f11), (nI f12), (nI f13), (nI f14), (nI f15), (nI f16), (zb_va c b1), (zb_ka b2), (zb_ka b3), (zb_ka b4), (zb_ka b5), (zb_va c b6), (zb_va c b7), (zb_ka b8), (zb_ka b9), (zb_va c b10), (zb_ka b11), (zb_ka b12), (zb_ka b13), (zb_ka b14), (zb_ka b15), (zb_ka b16))) : wX_commit_132 post X_x1 X_z0 (nI f0_openSet) (nI f0_state) (nI f0_votes) (nI f0_heard) (nI f0_names) (nI f0_name) (nI f0_slot) (nI f0_parts) (nI f0_trouble) (nI f0_troubled) (nI f0_happened) (nI f0_commitCount) (nI f0_first) (nI f0_waiting) (nI f0_sent) (nI f0_lostCount) (zb_va c am691) (zb_ka am692) (zb_ka am693) (zb_ka am694) (zb_ka am695) (zb_va c am696) (zb_va c am697) (zb_ka am698) (zb_ka am699) (zb_va c am6910) (zb_ka am6911) (zb_ka am6912) (zb_ka am6913) (zb_ka am6914) (zb_ka am6915) (zb_ka am6916) := by
  subst e_x1
  subst e_z0
  unfold zq_X_commit_132 at h
  unfold wX_commit_132
  refine zr_pX_log hc (rfl : (3 : Int32) = nI 3) (rfl : (6 : Int32) = nI 6) rfl (rfl : (0 : Int32) = nI 0) (zb_kvP (rfl : (0 : Int32) = nI 0)) h ?_
  intro f0_openSet_143 f0_state_144 f0_votes_145 f0_heard_146 f0_names_147 f0_name_148 f0_slot_149 f0_parts_150 f0_trouble_151 f0_troubled_152 f0_happened_153 f0_commitCount_154 f0_first_155 f0_waiting_156 f0_sent_157 f0_lostCount_158 am1441_161 am1442_164 am1443_167 am1444_170 am1445_173 am1446_176 am1447_179 am1448_182 am1449_185 am14410_188 am14411_191 am14412_194 am14413_197 am14414_200 am14415_203 am14416_206 h
  refine zr_pX_rollBack hc rfl h ?_
  intro f0_openSet_208 f0_state_209 f0_votes_210 f0_heard_211 f0_names_212 f0_name_213 f0_slot_214 f0_parts_215 f0_trouble_216 f0_troubled_217 f0_happened_218 f0_commitCount_219 f0_first_220 f0_waiting_221 f0_sent_222 f0_lostCount_223 am1541_226 am1542_229 am1543_232 am1544_235 am1545_238 am1546_241 am1547_244 am1548_247 am1549_250 am15410_253 am15411_256 am15412_259 am15413_262 am15414_265 am15415_268 am15416_271 h
  refine zb_let_k h (zb_addP rfl rfl) ?_
  intro h
  refine zr_pX_shortenLogs hc h ?_
  intro f0_openSet_274 f0_state_275 f0_votes_276 f0_heard_277 f0_names_278 f0_name_279 f0_slot_280 f0_parts_281 f0_trouble_282 f0_troubled_283 f0_happened_284 f0_commitCount_285 f0_first_286 f0_waiting_287 f0_sent_288 f0_lostCount_289 am1691_292 am1692_295 am1693_298 am1694_301 am1695_304 am1696_307 am1697_310 am1698_313 am1699_316 am16910_319 am16911_322 am16912_325 am16913_328 am16914_331 am16915_334 am16916_337 h
  exact hk rfl h
noncomputable def zq_X_commit_114 (kk : Nat → Nat → Nat → Nat → Nat → Nat → Nat → Nat → Nat → Nat → Nat → Nat → Nat → Nat → Nat → Nat → Nat → Nat → Nat → Nat → Nat → Nat → Nat → Nat → Nat → Nat → Nat → Nat → Nat → Nat → Nat → Nat → Nat → Bool) (x1 f0_openSet f0_state f0_votes f0_heard f0_names f0_name f0_slot f0_parts f0_trouble f0_troubled f0_happened f0_commitCount f0_first f0_waiting f0_sent f0_lostCount am691 am692 am693 am694 am695 am696 am697 am698 am699 am6910 am6911 am6912 am6913 am6914 am6915 am6916 : Nat) : Bool := (zq_pX_isLogged (fun r_140 => (zb_if (zb_eq r_140 0) (zq_X_commit_132 kk x1 0 f0_openSet f0_state f0_votes f0_heard f0_names f0_name f0_slot f0_parts f0_trouble f0_troubled f0_happened f0_commitCount f0_first f0_waiting f0_sent f0_lostCount am691 am692 am693 am694 am695 am696 am697 am698 am699 am6910 am6911 am6912 am6913 am6914 am6915 am6916) (zq_X_commit_132 kk x1 1 f0_openSet f0_state f0_votes f0_heard f0_names f0_name f0_slot f0_parts f0_trouble f0_troubled f0_happened f0_commitCount f0_first f0_waiting f0_sent f0_lostCount am691 am692 am693 am694 am695 am696 am697 am698 am699 am6910 am6911 am6912 am6913 am6914 am6915 am6916))) f0_openSet f0_state f0_votes f0_heard f0_names f0_name f0_slot f0_parts f0_trouble f0_troubled f0_happened f0_commitCount f0_first f0_waiting f0_sent f0_lostCount am691 am692 am693 am694 am695 am696 am697 am698 am699 am6910 am6911 am6912 am6913 am6914 am6915 am6916 3 5 f0_name)
theorem zr_X_commit_114 {c : Nat} (hc : c ≤ 1023) {post : Int32 → St2 → Prop} {kk : Nat → Nat → Nat → Nat → Nat → Nat → Nat → Nat → Nat → Nat → Nat → Nat → Nat → Nat → Nat → Nat → Nat → Nat → Nat → Nat → Nat → Nat → Nat → Nat → Nat → Nat → Nat → Nat → Nat → Nat → Nat → Nat → Nat → Bool} {x1 f0_openSet f0_state f0_votes f0_heard f0_names f0_name f0_slot f0_parts f0_trouble f0_troubled f0_happened f0_commitCount f0_first f0_waiting f0_sent f0_lostCount am691 am692 am693 am694 am695 am696 am697 am698 am699 am6910 am6911 am6912 am6913 am6914 am6915 am6916 : Nat} {X_x1 : Int32} (e_x1 : X_x1 = nI x1) (h : zq_X_commit_114 kk x1 f0_openSet f0_state f0_votes f0_heard f0_names f0_name f0_slot f0_parts f0_trouble f0_troubled f0_happened f0_commitCount f0_first f0_waiting f0_sent f0_lostCount am691 am692 am693 am694 am695 am696 am697 am698 am699 am6910 am6911 am6912 am6913 am6914 am6915 am6916 = true) (hk : ∀ {r_ : Nat} {R_ : Int32}, R_ = nI r_ → ∀ {f1 f2 f3 f4 f5 f6 f7 f8 f9 f10 f11 f12 f13 f14 f15 f16 b1 b2 b3 b4 b5 b6 b7 b8 b9 b10 b11 b12 b13 b14 b15 b16 : Nat}, kk r_ f1 f2 f3 f4 f5 f6 f7 f8 f9 f10 f11 f12 f13 f14 f15 f16 b1 b2 b3 b4 b5 b6 b7 b8 b9 b10 b11 b12 b13 b14 b15 b16 = true → post R_ ((nI f1), (nI f2), (nI f3), (nI f4), (nI f5), (nI f6), (nI f7), (nI f8), (nI f9), (nI f10), (nI f11), (nI f12), (nI f13), (nI f14), (nI f15), (nI f16), (zb_va c b1), (zb_ka b2), (zb_ka b3), (zb_ka b4), (zb_ka b5), (zb_va c b6), (zb_va c b7), (zb_ka b8), (zb_ka b9), (zb_va c b10), (zb_ka b11), (zb_ka b12), (zb_ka b13), (zb_ka b14), (zb_ka b15), (zb_ka b16))) : wX_commit_114 post X_x1 (nI f0_openSet) (nI f0_state) (nI f0_votes) (nI f0_heard) (nI f0_names) (nI f0_name) (nI f0_slot) (nI f0_parts) (nI f0_trouble) (nI f0_troubled) (nI f0_happened) (nI f0_commitCount) (nI f0_first) (nI f0_waiting) (nI f0_sent) (nI f0_lostCount) (zb_va c am691) (zb_ka am692) (zb_ka am693) (zb_ka am694) (zb_ka am695) (zb_va c am696) (zb_va c am697) (zb_ka am698) (zb_ka am699) (zb_va c am6910) (zb_ka am6911) (zb_ka am6912) (zb_ka am6913) (zb_ka am6914) (zb_ka am6915) (zb_ka am6916) := by
  subst e_x1
  unfold zq_X_commit_114 at h
  unfold wX_commit_114
  refine zr_pX_isLogged hc (rfl : (3 : Int32) = nI 3) (rfl : (5 : Int32) = nI 5) rfl h ?_
  intro r_140 R_ eR_ h
  subst eR_
  refine zb_if_ok (zb_eqP rfl (rfl : (0 : Int32) = nI 0)) h ?_ ?_
  · intro h
    exact zr_X_commit_132 hc rfl (rfl : (0 : Int32) = nI 0) h hk
  · intro h
    exact zr_X_commit_132 hc rfl (rfl : (1 : Int32) = nI 1) h hk
noncomputable def zq_X_commit_75 (kk : Nat → Nat → Nat → Nat → Nat → Nat → Nat → Nat → Nat → Nat → Nat → Nat → Nat → Nat → Nat → Nat → Nat → Nat → Nat → Nat → Nat → Nat → Nat → Nat → Nat → Nat → Nat → Nat → Nat → Nat → Nat → Nat → Nat → Bool) (x1 : Nat) : Nat → Nat → Nat → Nat → Nat → Nat → Nat → Nat → Nat → Nat → Nat → Nat → Nat → Nat → Nat → Nat → Nat → Nat → Nat → Nat → Nat → Nat → Nat → Nat → Nat → Nat → Nat → Nat → Nat → Nat → Nat → Nat → Nat → Nat → Bool
  | 0 => fun _ _ _ _ _ _ _ _ _ _ _ _ _ _ _ _ _ _ _ _ _ _ _ _ _ _ _ _ _ _ _ _ _ => false
  | n + 1 => fun x4 f0_openSet f0_state f0_votes f0_heard f0_names f0_name f0_slot f0_parts f0_trouble f0_troubled f0_happened f0_commitCount f0_first f0_waiting f0_sent f0_lostCount am691 am692 am693 am694 am695 am696 am697 am698 am699 am6910 am6911 am6912 am6913 am6914 am6915 am6916 => (zb_if (zb_le 2000 x4) (zq_X_commit_114 kk x1 f0_openSet f0_state f0_votes f0_heard f0_names f0_name f0_slot f0_parts f0_trouble f0_troubled f0_happened f0_commitCount f0_first f0_waiting f0_sent f0_lostCount am691 am692 am693 am694 am695 am696 am697 am698 am699 am6910 am6911 am6912 am6913 am6914 am6915 am6916) (zq_pX_isOver (fun r_338 => (zb_if (zb_eq r_338 0) (zb_if (zb_eq f0_waiting 0) (zq_pX_remind (fun f0_openSet_408 f0_state_409 f0_votes_410 f0_heard_411 f0_names_412 f0_name_413 f0_slot_414 f0_parts_415 f0_trouble_416 f0_troubled_417 f0_happened_418 f0_commitCount_419 f0_first_420 f0_waiting_421 f0_sent_422 f0_lostCount_423 am981_426 am982_429 am983_432 am984_435 am985_438 am986_441 am987_444 am988_447 am989_450 am9810_453 am9811_456 am9812_459 am9813_462 am9814_465 am9815_468 am9816_471 => (zb_let (Nat.add x4 1) (fun x4_472 => (zq_X_commit_75 kk x1 n x4_472 f0_openSet_408 f0_state_409 f0_votes_410 f0_heard_411 f0_names_412 f0_name_413 f0_slot_414 f0_parts_415 f0_trouble_416 f0_troubled_417 f0_happened_418 f0_commitCount_419 f0_first_420 f0_waiting_421 f0_sent_422 f0_lostCount_423 am981_426 am982_429 am983_432 am984_435 am985_438 am986_441 am987_444 am988_447 am989_450 am9810_453 am9811_456 am9812_459 am9813_462 am9814_465 am9815_468 am9816_471)))) f0_openSet f0_state f0_votes f0_heard f0_names f0_name f0_slot f0_parts f0_trouble f0_troubled f0_happened f0_commitCount f0_first f0_waiting f0_sent f0_lostCount am691 am692 am693 am694 am695 am696 am697 am698 am699 am6910 am6911 am6912 am6913 am6914 am6915 am6916) (zq_pX_deliver (fun f0_openSet_342 f0_state_343 f0_votes_344 f0_heard_345 f0_names_346 f0_name_347 f0_slot_348 f0_parts_349 f0_trouble_350 f0_troubled_351 f0_happened_352 f0_commitCount_353 f0_first_354 f0_waiting_355 f0_sent_356 f0_lostCount_357 am1051_360 am1052_363 am1053_366 am1054_369 am1055_372 am1056_375 am1057_378 am1058_381 am1059_384 am10510_387 am10511_390 am10512_393 am10513_396 am10514_399 am10515_402 am10516_405 => (zb_let (Nat.add x4 1) (fun x4_406 => (zq_X_commit_75 kk x1 n x4_406 f0_openSet_342 f0_state_343 f0_votes_344 f0_heard_345 f0_names_346 f0_name_347 f0_slot_348 f0_parts_349 f0_trouble_350 f0_troubled_351 f0_happened_352 f0_commitCount_353 f0_first_354 f0_waiting_355 f0_sent_356 f0_lostCount_357 am1051_360 am1052_363 am1053_366 am1054_369 am1055_372 am1056_375 am1057_378 am1058_381 am1059_384 am10510_387 am10511_390 am10512_393 am10513_396 am10514_399 am10515_402 am10516_405)))) f0_openSet f0_state f0_votes f0_heard f0_names f0_name f0_slot f0_parts f0_trouble f0_troubled f0_happened f0_commitCount f0_first f0_waiting f0_sent f0_lostCount am691 am692 am693 am694 am695 am696 am697 am698 am699 am6910 am6911 am6912 am6913 am6914 am6915 am6916)) (zq_X_commit_114 kk x1 f0_openSet f0_state f0_votes f0_heard f0_names f0_name f0_slot f0_parts f0_trouble f0_troubled f0_happened f0_commitCount f0_first f0_waiting f0_sent f0_lostCount am691 am692 am693 am694 am695 am696 am697 am698 am699 am6910 am6911 am6912 am6913 am6914 am6915 am6916))) f0_openSet f0_state f0_votes f0_heard f0_names f0_name f0_slot f0_parts f0_trouble f0_troubled f0_happened f0_commitCount f0_first f0_waiting f0_sent f0_lostCount am691 am692 am693 am694 am695 am696 am697 am698 am699 am6910 am6911 am6912 am6913 am6914 am6915 am6916))
theorem zr_X_commit_75 {c : Nat} (hc : c ≤ 1023) {post : Int32 → St2 → Prop} {kk : Nat → Nat → Nat → Nat → Nat → Nat → Nat → Nat → Nat → Nat → Nat → Nat → Nat → Nat → Nat → Nat → Nat → Nat → Nat → Nat → Nat → Nat → Nat → Nat → Nat → Nat → Nat → Nat → Nat → Nat → Nat → Nat → Nat → Bool} (hk : ∀ {r_ : Nat} {R_ : Int32}, R_ = nI r_ → ∀ {f1 f2 f3 f4 f5 f6 f7 f8 f9 f10 f11 f12 f13 f14 f15 f16 b1 b2 b3 b4 b5 b6 b7 b8 b9 b10 b11 b12 b13 b14 b15 b16 : Nat}, kk r_ f1 f2 f3 f4 f5 f6 f7 f8 f9 f10 f11 f12 f13 f14 f15 f16 b1 b2 b3 b4 b5 b6 b7 b8 b9 b10 b11 b12 b13 b14 b15 b16 = true → post R_ ((nI f1), (nI f2), (nI f3), (nI f4), (nI f5), (nI f6), (nI f7), (nI f8), (nI f9), (nI f10), (nI f11), (nI f12), (nI f13), (nI f14), (nI f15), (nI f16), (zb_va c b1), (zb_ka b2), (zb_ka b3), (zb_ka b4), (zb_ka b5), (zb_va c b6), (zb_va c b7), (zb_ka b8), (zb_ka b9), (zb_va c b10), (zb_ka b11), (zb_ka b12), (zb_ka b13), (zb_ka b14), (zb_ka b15), (zb_ka b16))) {x1 : Nat} {X_x1 : Int32} (e_x1 : X_x1 = nI x1) : ∀ (n : Nat) {x4 f0_openSet f0_state f0_votes f0_heard f0_names f0_name f0_slot f0_parts f0_trouble f0_troubled f0_happened f0_commitCount f0_first f0_waiting f0_sent f0_lostCount am691 am692 am693 am694 am695 am696 am697 am698 am699 am6910 am6911 am6912 am6913 am6914 am6915 am6916 : Nat} {X_x4 : Int32}, X_x4 = nI x4 → zq_X_commit_75 kk x1 n x4 f0_openSet f0_state f0_votes f0_heard f0_names f0_name f0_slot f0_parts f0_trouble f0_troubled f0_happened f0_commitCount f0_first f0_waiting f0_sent f0_lostCount am691 am692 am693 am694 am695 am696 am697 am698 am699 am6910 am6911 am6912 am6913 am6914 am6915 am6916 = true → wX_commit_75 post X_x1 n X_x4 (nI f0_openSet) (nI f0_state) (nI f0_votes) (nI f0_heard) (nI f0_names) (nI f0_name) (nI f0_slot) (nI f0_parts) (nI f0_trouble) (nI f0_troubled) (nI f0_happened) (nI f0_commitCount) (nI f0_first) (nI f0_waiting) (nI f0_sent) (nI f0_lostCount) (zb_va c am691) (zb_ka am692) (zb_ka am693) (zb_ka am694) (zb_ka am695) (zb_va c am696) (zb_va c am697) (zb_ka am698) (zb_ka am699) (zb_va c am6910) (zb_ka am6911) (zb_ka am6912) (zb_ka am6913) (zb_ka am6914) (zb_ka am6915) (zb_ka am6916) := by
  subst e_x1
  intro n
  induction n with
  | zero =>
    intro x4 f0_openSet f0_state f0_votes f0_heard f0_names f0_name f0_slot f0_parts f0_trouble f0_troubled f0_happened f0_commitCount f0_first f0_waiting f0_sent f0_lostCount am691 am692 am693 am694 am695 am696 am697 am698 am699 am6910 am6911 am6912 am6913 am6914 am6915 am6916 X_x4 e_x4 h
    exact absurd (show false = true from h) Bool.false_ne_true
  | succ n ih =>
    intro x4 f0_openSet f0_state f0_votes f0_heard f0_names f0_name f0_slot f0_parts f0_trouble f0_troubled f0_happened f0_commitCount f0_first f0_waiting f0_sent f0_lostCount am691 am692 am693 am694 am695 am696 am697 am698 am699 am6910 am6911 am6912 am6913 am6914 am6915 am6916 X_x4 e_x4 h
    subst e_x4
    refine zb_if_ok (zb_leP (rfl : (2000 : Int32) = nI 2000) rfl) h ?_ ?_
    · intro h
      exact zr_X_commit_114 hc rfl h hk
    · intro h
      refine zr_pX_isOver hc h ?_
      intro r_338 R_ eR_ h
      subst eR_
      refine zb_if_ok (zb_eqP rfl (rfl : (0 : Int32) = nI 0)) h ?_ ?_
      · intro h
        refine zb_if_ok (zb_eqP rfl (rfl : (0 : Int32) = nI 0)) h ?_ ?_
        · intro h
          refine zr_pX_remind hc h ?_
          intro f0_openSet_408 f0_state_409 f0_votes_410 f0_heard_411 f0_names_412 f0_name_413 f0_slot_414 f0_parts_415 f0_trouble_416 f0_troubled_417 f0_happened_418 f0_commitCount_419 f0_first_420 f0_waiting_421 f0_sent_422 f0_lostCount_423 am981_426 am982_429 am983_432 am984_435 am985_438 am986_441 am987_444 am988_447 am989_450 am9810_453 am9811_456 am9812_459 am9813_462 am9814_465 am9815_468 am9816_471 h
          refine zb_let_k h (zb_addP rfl (rfl : (1 : Int32) = nI 1)) ?_
          intro h
          exact ih rfl h
        · intro h
          refine zr_pX_deliver hc h ?_
          intro f0_openSet_342 f0_state_343 f0_votes_344 f0_heard_345 f0_names_346 f0_name_347 f0_slot_348 f0_parts_349 f0_trouble_350 f0_troubled_351 f0_happened_352 f0_commitCount_353 f0_first_354 f0_waiting_355 f0_sent_356 f0_lostCount_357 am1051_360 am1052_363 am1053_366 am1054_369 am1055_372 am1056_375 am1057_378 am1058_381 am1059_384 am10510_387 am10511_390 am10512_393 am10513_396 am10514_399 am10515_402 am10516_405 h
          refine zb_let_k h (zb_addP rfl (rfl : (1 : Int32) = nI 1)) ?_
          intro h
          exact ih rfl h
      · intro h
        exact zr_X_commit_114 hc rfl h hk
noncomputable def zq_X_commit_68 (kk : Nat → Nat → Nat → Nat → Nat → Nat → Nat → Nat → Nat → Nat → Nat → Nat → Nat → Nat → Nat → Nat → Nat → Nat → Nat → Nat → Nat → Nat → Nat → Nat → Nat → Nat → Nat → Nat → Nat → Nat → Nat → Nat → Nat → Bool) (x1 f0_openSet f0_state f0_votes f0_heard f0_names f0_name f0_slot f0_parts f0_trouble f0_troubled f0_happened f0_commitCount f0_first f0_waiting f0_sent f0_lostCount am421 am422 am423 am424 am425 am426 am427 am428 am429 am4210 am4211 am4212 am4213 am4214 am4215 am4216 : Nat) : Bool := (zq_pX_decideIfReady (fun f0_openSet_75 f0_state_76 f0_votes_77 f0_heard_78 f0_names_79 f0_name_80 f0_slot_81 f0_parts_82 f0_trouble_83 f0_troubled_84 f0_happened_85 f0_commitCount_86 f0_first_87 f0_waiting_88 f0_sent_89 f0_lostCount_90 am691_93 am692_96 am693_99 am694_102 am695_105 am696_108 am697_111 am698_114 am699_117 am6910_120 am6911_123 am6912_126 am6913_129 am6914_132 am6915_135 am6916_138 => (zq_X_commit_75 kk x1 2005 0 f0_openSet_75 f0_state_76 f0_votes_77 f0_heard_78 f0_names_79 f0_name_80 f0_slot_81 f0_parts_82 f0_trouble_83 f0_troubled_84 f0_happened_85 f0_commitCount_86 f0_first_87 f0_waiting_88 f0_sent_89 f0_lostCount_90 am691_93 am692_96 am693_99 am694_102 am695_105 am696_108 am697_111 am698_114 am699_117 am6910_120 am6911_123 am6912_126 am6913_129 am6914_132 am6915_135 am6916_138)) f0_openSet f0_state f0_votes f0_heard f0_names f0_name f0_slot f0_parts f0_trouble f0_troubled f0_happened f0_commitCount f0_first f0_waiting f0_sent f0_lostCount am421 am422 am423 am424 am425 am426 am427 am428 am429 am4210 am4211 am4212 am4213 am4214 am4215 am4216)
theorem zr_X_commit_68 {c : Nat} (hc : c ≤ 1023) {post : Int32 → St2 → Prop} {kk : Nat → Nat → Nat → Nat → Nat → Nat → Nat → Nat → Nat → Nat → Nat → Nat → Nat → Nat → Nat → Nat → Nat → Nat → Nat → Nat → Nat → Nat → Nat → Nat → Nat → Nat → Nat → Nat → Nat → Nat → Nat → Nat → Nat → Bool} {x1 f0_openSet f0_state f0_votes f0_heard f0_names f0_name f0_slot f0_parts f0_trouble f0_troubled f0_happened f0_commitCount f0_first f0_waiting f0_sent f0_lostCount am421 am422 am423 am424 am425 am426 am427 am428 am429 am4210 am4211 am4212 am4213 am4214 am4215 am4216 : Nat} {X_x1 : Int32} (e_x1 : X_x1 = nI x1) (h : zq_X_commit_68 kk x1 f0_openSet f0_state f0_votes f0_heard f0_names f0_name f0_slot f0_parts f0_trouble f0_troubled f0_happened f0_commitCount f0_first f0_waiting f0_sent f0_lostCount am421 am422 am423 am424 am425 am426 am427 am428 am429 am4210 am4211 am4212 am4213 am4214 am4215 am4216 = true) (hk : ∀ {r_ : Nat} {R_ : Int32}, R_ = nI r_ → ∀ {f1 f2 f3 f4 f5 f6 f7 f8 f9 f10 f11 f12 f13 f14 f15 f16 b1 b2 b3 b4 b5 b6 b7 b8 b9 b10 b11 b12 b13 b14 b15 b16 : Nat}, kk r_ f1 f2 f3 f4 f5 f6 f7 f8 f9 f10 f11 f12 f13 f14 f15 f16 b1 b2 b3 b4 b5 b6 b7 b8 b9 b10 b11 b12 b13 b14 b15 b16 = true → post R_ ((nI f1), (nI f2), (nI f3), (nI f4), (nI f5), (nI f6), (nI f7), (nI f8), (nI f9), (nI f10), (nI f11), (nI f12), (nI f13), (nI f14), (nI f15), (nI f16), (zb_va c b1), (zb_ka b2), (zb_ka b3), (zb_ka b4), (zb_ka b5), (zb_va c b6), (zb_va c b7), (zb_ka b8), (zb_ka b9), (zb_va c b10), (zb_ka b11), (zb_ka b12), (zb_ka b13), (zb_ka b14), (zb_ka b15), (zb_ka b16))) : wX_commit_68 post X_x1 (nI f0_openSet) (nI f0_state) (nI f0_votes) (nI f0_heard) (nI f0_names) (nI f0_name) (nI f0_slot) (nI f0_parts) (nI f0_trouble) (nI f0_troubled) (nI f0_happened) (nI f0_commitCount) (nI f0_first) (nI f0_waiting) (nI f0_sent) (nI f0_lostCount) (zb_va c am421) (zb_ka am422) (zb_ka am423) (zb_ka am424) (zb_ka am425) (zb_va c am426) (zb_va c am427) (zb_ka am428) (zb_ka am429) (zb_va c am4210) (zb_ka am4211) (zb_ka am4212) (zb_ka am4213) (zb_ka am4214) (zb_ka am4215) (zb_ka am4216) := by
  subst e_x1
  unfold zq_X_commit_68 at h
  unfold wX_commit_68
  refine zr_pX_decideIfReady hc h ?_
  intro f0_openSet_75 f0_state_76 f0_votes_77 f0_heard_78 f0_names_79 f0_name_80 f0_slot_81 f0_parts_82 f0_trouble_83 f0_troubled_84 f0_happened_85 f0_commitCount_86 f0_first_87 f0_waiting_88 f0_sent_89 f0_lostCount_90 am691_93 am692_96 am693_99 am694_102 am695_105 am696_108 am697_111 am698_114 am699_117 am6910_120 am6911_123 am6912_126 am6913_129 am6914_132 am6915_135 am6916_138 h
  refine ⟨2005, ?_⟩
  exact zr_X_commit_75 hc hk rfl _ (rfl : (0 : Int32) = nI 0) h
noncomputable def zq_pX_commit (kk : Nat → Nat → Nat → Nat → Nat → Nat → Nat → Nat → Nat → Nat → Nat → Nat → Nat → Nat → Nat → Nat → Nat → Nat → Nat → Nat → Nat → Nat → Nat → Nat → Nat → Nat → Nat → Nat → Nat → Nat → Nat → Nat → Nat → Bool) (f0_openSet f0_state f0_votes f0_heard f0_names f0_name f0_slot f0_parts f0_trouble f0_troubled f0_happened f0_commitCount f0_first f0_waiting f0_sent f0_lostCount a1 a2 a3 a4 a5 a6 a7 a8 a9 a10 a11 a12 a13 a14 a15 a16 p0 p1 p2 : Nat) : Bool := (zq_pX_isOpen (fun r_1 => (zb_if (zb_eq r_1 0) (kk 4294867296 f0_openSet f0_state f0_votes f0_heard f0_names f0_name f0_slot f0_parts f0_trouble f0_troubled f0_happened f0_commitCount f0_first f0_waiting f0_sent f0_lostCount a1 a2 a3 a4 a5 a6 a7 a8 a9 a10 a11 a12 a13 a14 a15 a16) (zb_if (zb_lt p1 0) (kk 4294867296 f0_openSet f0_state f0_votes f0_heard f0_names f0_name f0_slot f0_parts f0_trouble f0_troubled f0_happened f0_commitCount f0_first f0_waiting f0_sent f0_lostCount a1 a2 a3 a4 a5 a6 a7 a8 a9 a10 a11 a12 a13 a14 a15 a16) (zb_if (zb_lt 7 p1) (kk 4294867296 f0_openSet f0_state f0_votes f0_heard f0_names f0_name f0_slot f0_parts f0_trouble f0_troubled f0_happened f0_commitCount f0_first f0_waiting f0_sent f0_lostCount a1 a2 a3 a4 a5 a6 a7 a8 a9 a10 a11 a12 a13 a14 a15 a16) (zb_if (zb_lt p2 0) (kk 4294867296 f0_openSet f0_state f0_votes f0_heard f0_names f0_name f0_slot f0_parts f0_trouble f0_troubled f0_happened f0_commitCount f0_first f0_waiting f0_sent f0_lostCount a1 a2 a3 a4 a5 a6 a7 a8 a9 a10 a11 a12 a13 a14 a15 a16) (zb_if (zb_lt p2 3) (zq_pX_startCommit (fun f0_openSet_8 f0_state_9 f0_votes_10 f0_heard_11 f0_names_12 f0_name_13 f0_slot_14 f0_parts_15 f0_trouble_16 f0_troubled_17 f0_happened_18 f0_commitCount_19 f0_first_20 f0_waiting_21 f0_sent_22 f0_lostCount_23 am421_26 am422_29 am423_32 am424_35 am425_38 am426_41 am427_44 am428_47 am429_50 am4210_53 am4211_56 am4212_59 am4213_62 am4214_65 am4215_68 am4216_71 => (zq_pX_isPart (fun r_72 => (zb_if (zb_eq r_72 0) (zq_pX_strikes (fun r_473 f0_openSet_474 f0_state_475 f0_votes_476 f0_heard_477 f0_names_478 f0_name_479 f0_slot_480 f0_parts_481 f0_trouble_482 f0_troubled_483 f0_happened_484 f0_commitCount_485 f0_first_486 f0_waiting_487 f0_sent_488 f0_lostCount_489 am561_492 am562_495 am563_498 am564_501 am565_504 am566_507 am567_510 am568_513 am569_516 am5610_519 am5611_522 am5612_525 am5613_528 am5614_531 am5615_534 am5616_537 => (zb_if (zb_eq r_473 0) (zq_X_commit_68 kk p0 f0_openSet_474 f0_state_475 f0_votes_476 f0_heard_477 f0_names_478 f0_name_479 f0_slot_480 f0_parts_481 f0_trouble_482 f0_troubled_483 f0_happened_484 f0_commitCount_485 f0_first_486 f0_waiting_487 f0_sent_488 f0_lostCount_489 am561_492 am562_495 am563_498 am564_501 am565_504 am566_507 am567_510 am568_513 am569_516 am5610_519 am5611_522 am5612_525 am5613_528 am5614_531 am5615_534 am5616_537) (zq_pX_breakDown (fun r_539 f0_openSet_540 f0_state_541 f0_votes_542 f0_heard_543 f0_names_544 f0_name_545 f0_slot_546 f0_parts_547 f0_trouble_548 f0_troubled_549 f0_happened_550 f0_commitCount_551 f0_first_552 f0_waiting_553 f0_sent_554 f0_lostCount_555 am641_558 am642_561 am643_564 am644_567 am645_570 am646_573 am647_576 am648_579 am649_582 am6410_585 am6411_588 am6412_591 am6413_594 am6414_597 am6415_600 am6416_603 => (zq_X_commit_68 kk p0 f0_openSet_540 f0_state_541 f0_votes_542 f0_heard_543 f0_names_544 f0_name_545 f0_slot_546 f0_parts_547 f0_trouble_548 f0_troubled_549 f0_happened_550 f0_commitCount_551 f0_first_552 f0_waiting_553 f0_sent_554 f0_lostCount_555 am641_558 am642_561 am643_564 am644_567 am645_570 am646_573 am647_576 am648_579 am649_582 am6410_585 am6411_588 am6412_591 am6413_594 am6414_597 am6415_600 am6416_603)) f0_openSet_474 f0_state_475 f0_votes_476 f0_heard_477 f0_names_478 f0_name_479 f0_slot_480 f0_parts_481 f0_trouble_482 f0_troubled_483 f0_happened_484 f0_commitCount_485 f0_first_486 f0_waiting_487 f0_sent_488 f0_lostCount_489 am561_492 am562_495 am563_498 am564_501 am565_504 am566_507 am567_510 am568_513 am569_516 am5610_519 am5611_522 am5612_525 am5613_528 am5614_531 am5615_534 am5616_537 p2))) f0_openSet_8 f0_state_9 f0_votes_10 f0_heard_11 f0_names_12 f0_name_13 f0_slot_14 f0_parts_15 f0_trouble_16 f0_troubled_17 f0_happened_18 f0_commitCount_19 f0_first_20 f0_waiting_21 f0_sent_22 f0_lostCount_23 am421_26 am422_29 am423_32 am424_35 am425_38 am426_41 am427_44 am428_47 am429_50 am4210_53 am4211_56 am4212_59 am4213_62 am4214_65 am4215_68 am4216_71 1 p2) (zq_X_commit_68 kk p0 f0_openSet_8 f0_state_9 f0_votes_10 f0_heard_11 f0_names_12 f0_name_13 f0_slot_14 f0_parts_15 f0_trouble_16 f0_troubled_17 f0_happened_18 f0_commitCount_19 f0_first_20 f0_waiting_21 f0_sent_22 f0_lostCount_23 am421_26 am422_29 am423_32 am424_35 am425_38 am426_41 am427_44 am428_47 am429_50 am4210_53 am4211_56 am4212_59 am4213_62 am4214_65 am4215_68 am4216_71))) f0_openSet_8 f0_state_9 f0_votes_10 f0_heard_11 f0_names_12 f0_name_13 f0_slot_14 f0_parts_15 f0_trouble_16 f0_troubled_17 f0_happened_18 f0_commitCount_19 f0_first_20 f0_waiting_21 f0_sent_22 f0_lostCount_23 am421_26 am422_29 am423_32 am424_35 am425_38 am426_41 am427_44 am428_47 am429_50 am4210_53 am4211_56 am4212_59 am4213_62 am4214_65 am4215_68 am4216_71 p2)) f0_openSet f0_state f0_votes f0_heard f0_names f0_name f0_slot f0_parts p1 p2 f0_happened f0_commitCount f0_first f0_waiting f0_sent f0_lostCount a1 a2 a3 a4 a5 a6 a7 a8 a9 a10 a11 a12 a13 a14 a15 a16 p0) (kk 4294867296 f0_openSet f0_state f0_votes f0_heard f0_names f0_name f0_slot f0_parts f0_trouble f0_troubled f0_happened f0_commitCount f0_first f0_waiting f0_sent f0_lostCount a1 a2 a3 a4 a5 a6 a7 a8 a9 a10 a11 a12 a13 a14 a15 a16))))))) f0_openSet f0_state f0_votes f0_heard f0_names f0_name f0_slot f0_parts f0_trouble f0_troubled f0_happened f0_commitCount f0_first f0_waiting f0_sent f0_lostCount a1 a2 a3 a4 a5 a6 a7 a8 a9 a10 a11 a12 a13 a14 a15 a16 p0)
theorem zr_pX_commit {c : Nat} (hc : c ≤ 1023) {post : Int32 → St2 → Prop} {kk : Nat → Nat → Nat → Nat → Nat → Nat → Nat → Nat → Nat → Nat → Nat → Nat → Nat → Nat → Nat → Nat → Nat → Nat → Nat → Nat → Nat → Nat → Nat → Nat → Nat → Nat → Nat → Nat → Nat → Nat → Nat → Nat → Nat → Bool} {f0_openSet f0_state f0_votes f0_heard f0_names f0_name f0_slot f0_parts f0_trouble f0_troubled f0_happened f0_commitCount f0_first f0_waiting f0_sent f0_lostCount a1 a2 a3 a4 a5 a6 a7 a8 a9 a10 a11 a12 a13 a14 a15 a16 p0 p1 p2 : Nat} {X_p0 : Int32} (e_p0 : X_p0 = nI p0) {X_p1 : Int32} (e_p1 : X_p1 = nI p1) {X_p2 : Int32} (e_p2 : X_p2 = nI p2) (h : zq_pX_commit kk f0_openSet f0_state f0_votes f0_heard f0_names f0_name f0_slot f0_parts f0_trouble f0_troubled f0_happened f0_commitCount f0_first f0_waiting f0_sent f0_lostCount a1 a2 a3 a4 a5 a6 a7 a8 a9 a10 a11 a12 a13 a14 a15 a16 p0 p1 p2 = true) (hk : ∀ {r_ : Nat} {R_ : Int32}, R_ = nI r_ → ∀ {f1 f2 f3 f4 f5 f6 f7 f8 f9 f10 f11 f12 f13 f14 f15 f16 b1 b2 b3 b4 b5 b6 b7 b8 b9 b10 b11 b12 b13 b14 b15 b16 : Nat}, kk r_ f1 f2 f3 f4 f5 f6 f7 f8 f9 f10 f11 f12 f13 f14 f15 f16 b1 b2 b3 b4 b5 b6 b7 b8 b9 b10 b11 b12 b13 b14 b15 b16 = true → post R_ ((nI f1), (nI f2), (nI f3), (nI f4), (nI f5), (nI f6), (nI f7), (nI f8), (nI f9), (nI f10), (nI f11), (nI f12), (nI f13), (nI f14), (nI f15), (nI f16), (zb_va c b1), (zb_ka b2), (zb_ka b3), (zb_ka b4), (zb_ka b5), (zb_va c b6), (zb_va c b7), (zb_ka b8), (zb_ka b9), (zb_va c b10), (zb_ka b11), (zb_ka b12), (zb_ka b13), (zb_ka b14), (zb_ka b15), (zb_ka b16))) : wpX_commit post ((nI f0_openSet), (nI f0_state), (nI f0_votes), (nI f0_heard), (nI f0_names), (nI f0_name), (nI f0_slot), (nI f0_parts), (nI f0_trouble), (nI f0_troubled), (nI f0_happened), (nI f0_commitCount), (nI f0_first), (nI f0_waiting), (nI f0_sent), (nI f0_lostCount), (zb_va c a1), (zb_ka a2), (zb_ka a3), (zb_ka a4), (zb_ka a5), (zb_va c a6), (zb_va c a7), (zb_ka a8), (zb_ka a9), (zb_va c a10), (zb_ka a11), (zb_ka a12), (zb_ka a13), (zb_ka a14), (zb_ka a15), (zb_ka a16)) X_p0 X_p1 X_p2 := by
  subst e_p0
  subst e_p1
  subst e_p2
  unfold zq_pX_commit at h
  unfold wpX_commit
  refine zr_pX_isOpen hc rfl h ?_
  intro r_1 R_ eR_ h
  subst eR_
  refine zb_if_ok (zb_eqP rfl (rfl : (0 : Int32) = nI 0)) h ?_ ?_
  · intro h
    exact hk zb_m100000 h
  · intro h
    refine zb_if_ok (zb_ltP rfl (rfl : (0 : Int32) = nI 0)) h ?_ ?_
    · intro h
      exact hk zb_m100000 h
    · intro h
      refine zb_if_ok (zb_ltP (rfl : (7 : Int32) = nI 7) rfl) h ?_ ?_
      · intro h
        exact hk zb_m100000 h
      · intro h
        refine zb_if_ok (zb_ltP rfl (rfl : (0 : Int32) = nI 0)) h ?_ ?_
        · intro h
          exact hk zb_m100000 h
        · intro h
          refine zb_if_ok (zb_ltP rfl (rfl : (3 : Int32) = nI 3)) h ?_ ?_
          · intro h
            refine zr_pX_startCommit hc rfl h ?_
            intro f0_openSet_8 f0_state_9 f0_votes_10 f0_heard_11 f0_names_12 f0_name_13 f0_slot_14 f0_parts_15 f0_trouble_16 f0_troubled_17 f0_happened_18 f0_commitCount_19 f0_first_20 f0_waiting_21 f0_sent_22 f0_lostCount_23 am421_26 am422_29 am423_32 am424_35 am425_38 am426_41 am427_44 am428_47 am429_50 am4210_53 am4211_56 am4212_59 am4213_62 am4214_65 am4215_68 am4216_71 h
            refine zr_pX_isPart hc rfl h ?_
            intro r_72 R_ eR_ h
            subst eR_
            refine zb_if_ok (zb_eqP rfl (rfl : (0 : Int32) = nI 0)) h ?_ ?_
            · intro h
              refine zr_pX_strikes hc (rfl : (1 : Int32) = nI 1) rfl h ?_
              intro r_473 R_ eR_ f0_openSet_474 f0_state_475 f0_votes_476 f0_heard_477 f0_names_478 f0_name_479 f0_slot_480 f0_parts_481 f0_trouble_482 f0_troubled_483 f0_happened_484 f0_commitCount_485 f0_first_486 f0_waiting_487 f0_sent_488 f0_lostCount_489 am561_492 am562_495 am563_498 am564_501 am565_504 am566_507 am567_510 am568_513 am569_516 am5610_519 am5611_522 am5612_525 am5613_528 am5614_531 am5615_534 am5616_537 h
              subst eR_
              refine zb_if_ok (zb_eqP rfl (rfl : (0 : Int32) = nI 0)) h ?_ ?_
              · intro h
                exact zr_X_commit_68 hc rfl h hk
              · intro h
                refine zr_pX_breakDown hc rfl h ?_
                intro r_539 R_ eR_ f0_openSet_540 f0_state_541 f0_votes_542 f0_heard_543 f0_names_544 f0_name_545 f0_slot_546 f0_parts_547 f0_trouble_548 f0_troubled_549 f0_happened_550 f0_commitCount_551 f0_first_552 f0_waiting_553 f0_sent_554 f0_lostCount_555 am641_558 am642_561 am643_564 am644_567 am645_570 am646_573 am647_576 am648_579 am649_582 am6410_585 am6411_588 am6412_591 am6413_594 am6414_597 am6415_600 am6416_603 h
                subst eR_
                exact zr_X_commit_68 hc rfl h hk
            · intro h
              exact zr_X_commit_68 hc rfl h hk
          · intro h
            exact hk zb_m100000 h
noncomputable def zq_X_abort_15 (kk : Nat → Nat → Nat → Nat → Nat → Nat → Nat → Nat → Nat → Nat → Nat → Nat → Nat → Nat → Nat → Nat → Nat → Nat → Nat → Nat → Nat → Nat → Nat → Nat → Nat → Nat → Nat → Nat → Nat → Nat → Nat → Nat → Nat → Bool) (x1 f0_openSet f0_state f0_votes f0_heard f0_names f0_name f0_slot f0_parts f0_trouble f0_troubled f0_happened f0_commitCount f0_first f0_waiting f0_sent f0_lostCount a1 a2 a3 a4 a5 a6 a7 a8 a9 a10 a11 a12 a13 a14 a15 a16 : Nat) : Nat → Nat → Nat → Bool
  | 0 => fun _ _ => false
  | n + 1 => fun x2 x3 => (zb_if (zb_le 12 x3) (zq_pX_rollBack (fun f0_openSet_5 f0_state_6 f0_votes_7 f0_heard_8 f0_names_9 f0_name_10 f0_slot_11 f0_parts_12 f0_trouble_13 f0_troubled_14 f0_happened_15 f0_commitCount_16 f0_first_17 f0_waiting_18 f0_sent_19 f0_lostCount_20 am471_23 am472_26 am473_29 am474_32 am475_35 am476_38 am477_41 am478_44 am479_47 am4710_50 am4711_53 am4712_56 am4713_59 am4714_62 am4715_65 am4716_68 => (kk x2 f0_openSet_5 f0_state_6 f0_votes_7 f0_heard_8 f0_names_9 f0_name_10 f0_slot_11 f0_parts_12 f0_trouble_13 f0_troubled_14 f0_happened_15 f0_commitCount_16 f0_first_17 f0_waiting_18 f0_sent_19 f0_lostCount_20 am471_23 am472_26 am473_29 am474_32 am475_35 am476_38 am477_41 am478_44 am479_47 am4710_50 am4711_53 am4712_56 am4713_59 am4714_62 am4715_65 am4716_68)) f0_openSet f0_state f0_votes f0_heard f0_names f0_name f0_slot f0_parts f0_trouble f0_troubled f0_happened f0_commitCount f0_first f0_waiting f0_sent f0_lostCount a1 a2 a3 a4 a5 a6 a7 a8 a9 a10 a11 a12 a13 a14 a15 a16 x1) (zb_in x3 12 (zb_if (zb_eq (zb_rd a8 x3) x1) (zb_let (Nat.add x2 1) (fun x2_73 => (zb_let (Nat.add x3 1) (fun x3_74 => (zq_X_abort_15 kk x1 f0_openSet f0_state f0_votes f0_heard f0_names f0_name f0_slot f0_parts f0_trouble f0_troubled f0_happened f0_commitCount f0_first f0_waiting f0_sent f0_lostCount a1 a2 a3 a4 a5 a6 a7 a8 a9 a10 a11 a12 a13 a14 a15 a16 n x2_73 x3_74))))) (zb_let (Nat.add x2 0) (fun x2_71 => (zb_let (Nat.add x3 1) (fun x3_72 => (zq_X_abort_15 kk x1 f0_openSet f0_state f0_votes f0_heard f0_names f0_name f0_slot f0_parts f0_trouble f0_troubled f0_happened f0_commitCount f0_first f0_waiting f0_sent f0_lostCount a1 a2 a3 a4 a5 a6 a7 a8 a9 a10 a11 a12 a13 a14 a15 a16 n x2_71 x3_72))))))))
theorem zr_X_abort_15 {c : Nat} (hc : c ≤ 1023) {post : Int32 → St2 → Prop} {kk : Nat → Nat → Nat → Nat → Nat → Nat → Nat → Nat → Nat → Nat → Nat → Nat → Nat → Nat → Nat → Nat → Nat → Nat → Nat → Nat → Nat → Nat → Nat → Nat → Nat → Nat → Nat → Nat → Nat → Nat → Nat → Nat → Nat → Bool} (hk : ∀ {r_ : Nat} {R_ : Int32}, R_ = nI r_ → ∀ {f1 f2 f3 f4 f5 f6 f7 f8 f9 f10 f11 f12 f13 f14 f15 f16 b1 b2 b3 b4 b5 b6 b7 b8 b9 b10 b11 b12 b13 b14 b15 b16 : Nat}, kk r_ f1 f2 f3 f4 f5 f6 f7 f8 f9 f10 f11 f12 f13 f14 f15 f16 b1 b2 b3 b4 b5 b6 b7 b8 b9 b10 b11 b12 b13 b14 b15 b16 = true → post R_ ((nI f1), (nI f2), (nI f3), (nI f4), (nI f5), (nI f6), (nI f7), (nI f8), (nI f9), (nI f10), (nI f11), (nI f12), (nI f13), (nI f14), (nI f15), (nI f16), (zb_va c b1), (zb_ka b2), (zb_ka b3), (zb_ka b4), (zb_ka b5), (zb_va c b6), (zb_va c b7), (zb_ka b8), (zb_ka b9), (zb_va c b10), (zb_ka b11), (zb_ka b12), (zb_ka b13), (zb_ka b14), (zb_ka b15), (zb_ka b16))) {x1 f0_openSet f0_state f0_votes f0_heard f0_names f0_name f0_slot f0_parts f0_trouble f0_troubled f0_happened f0_commitCount f0_first f0_waiting f0_sent f0_lostCount a1 a2 a3 a4 a5 a6 a7 a8 a9 a10 a11 a12 a13 a14 a15 a16 : Nat} {X_x1 : Int32} (e_x1 : X_x1 = nI x1) : ∀ (n : Nat) {x2 x3 : Nat} {X_x2 X_x3 : Int32}, X_x2 = nI x2 → X_x3 = nI x3 → zq_X_abort_15 kk x1 f0_openSet f0_state f0_votes f0_heard f0_names f0_name f0_slot f0_parts f0_trouble f0_troubled f0_happened f0_commitCount f0_first f0_waiting f0_sent f0_lostCount a1 a2 a3 a4 a5 a6 a7 a8 a9 a10 a11 a12 a13 a14 a15 a16 n x2 x3 = true → wX_abort_15 post X_x1 (nI f0_openSet) (nI f0_state) (nI f0_votes) (nI f0_heard) (nI f0_names) (nI f0_name) (nI f0_slot) (nI f0_parts) (nI f0_trouble) (nI f0_troubled) (nI f0_happened) (nI f0_commitCount) (nI f0_first) (nI f0_waiting) (nI f0_sent) (nI f0_lostCount) (zb_va c a1) (zb_ka a2) (zb_ka a3) (zb_ka a4) (zb_ka a5) (zb_va c a6) (zb_va c a7) (zb_ka a8) (zb_ka a9) (zb_va c a10) (zb_ka a11) (zb_ka a12) (zb_ka a13) (zb_ka a14) (zb_ka a15) (zb_ka a16) n X_x2 X_x3 := by
  subst e_x1
  intro n
  induction n with
  | zero =>
    intro x2 x3 X_x2 X_x3 e_x2 e_x3 h
    exact absurd (show false = true from h) Bool.false_ne_true
  | succ n ih =>
    intro x2 x3 X_x2 X_x3 e_x2 e_x3 h
    subst e_x2
    subst e_x3
    refine zb_if_ok (zb_leP (rfl : (12 : Int32) = nI 12) rfl) h ?_ ?_
    · intro h
      refine zr_pX_rollBack hc rfl h ?_
      intro f0_openSet_5 f0_state_6 f0_votes_7 f0_heard_8 f0_names_9 f0_name_10 f0_slot_11 f0_parts_12 f0_trouble_13 f0_troubled_14 f0_happened_15 f0_commitCount_16 f0_first_17 f0_waiting_18 f0_sent_19 f0_lostCount_20 am471_23 am472_26 am473_29 am474_32 am475_35 am476_38 am477_41 am478_44 am479_47 am4710_50 am4711_53 am4712_56 am4713_59 am4714_62 am4715_65 am4716_68 h
      exact hk rfl h
    · intro h
      refine zb_in_ok rfl (by decide) h ?_
      intro h
      refine zb_if_ok (zb_eqP (zb_rdK rfl) rfl) h ?_ ?_
      · intro h
        refine zb_let_k h (zb_addP rfl (rfl : (1 : Int32) = nI 1)) ?_
        intro h
        refine zb_let_k h (zb_addP rfl (rfl : (1 : Int32) = nI 1)) ?_
        intro h
        exact ih rfl rfl h
      · intro h
        refine zb_let_k h (zb_addP rfl (rfl : (0 : Int32) = nI 0)) ?_
        intro h
        refine zb_let_k h (zb_addP rfl (rfl : (1 : Int32) = nI 1)) ?_
        intro h
        exact ih rfl rfl h
noncomputable def zq_pX_abort (kk : Nat → Nat → Nat → Nat → Nat → Nat → Nat → Nat → Nat → Nat → Nat → Nat → Nat → Nat → Nat → Nat → Nat → Nat → Nat → Nat → Nat → Nat → Nat → Nat → Nat → Nat → Nat → Nat → Nat → Nat → Nat → Nat → Nat → Bool) (f0_openSet f0_state f0_votes f0_heard f0_names f0_name f0_slot f0_parts f0_trouble f0_troubled f0_happened f0_commitCount f0_first f0_waiting f0_sent f0_lostCount a1 a2 a3 a4 a5 a6 a7 a8 a9 a10 a11 a12 a13 a14 a15 a16 p0 : Nat) : Bool := (zq_pX_isOpen (fun r_1 => (zb_if (zb_eq r_1 0) (kk 4294867296 f0_openSet f0_state f0_votes f0_heard f0_names f0_name f0_slot f0_parts f0_trouble f0_troubled f0_happened f0_commitCount f0_first f0_waiting f0_sent f0_lostCount a1 a2 a3 a4 a5 a6 a7 a8 a9 a10 a11 a12 a13 a14 a15 a16) (zq_X_abort_15 kk p0 f0_openSet f0_state f0_votes f0_heard f0_names f0_name f0_slot f0_parts f0_trouble f0_troubled f0_happened f0_commitCount f0_first f0_waiting f0_sent f0_lostCount a1 a2 a3 a4 a5 a6 a7 a8 a9 a10 a11 a12 a13 a14 a15 a16 70 0 0))) f0_openSet f0_state f0_votes f0_heard f0_names f0_name f0_slot f0_parts f0_trouble f0_troubled f0_happened f0_commitCount f0_first f0_waiting f0_sent f0_lostCount a1 a2 a3 a4 a5 a6 a7 a8 a9 a10 a11 a12 a13 a14 a15 a16 p0)
theorem zr_pX_abort {c : Nat} (hc : c ≤ 1023) {post : Int32 → St2 → Prop} {kk : Nat → Nat → Nat → Nat → Nat → Nat → Nat → Nat → Nat → Nat → Nat → Nat → Nat → Nat → Nat → Nat → Nat → Nat → Nat → Nat → Nat → Nat → Nat → Nat → Nat → Nat → Nat → Nat → Nat → Nat → Nat → Nat → Nat → Bool} {f0_openSet f0_state f0_votes f0_heard f0_names f0_name f0_slot f0_parts f0_trouble f0_troubled f0_happened f0_commitCount f0_first f0_waiting f0_sent f0_lostCount a1 a2 a3 a4 a5 a6 a7 a8 a9 a10 a11 a12 a13 a14 a15 a16 p0 : Nat} {X_p0 : Int32} (e_p0 : X_p0 = nI p0) (h : zq_pX_abort kk f0_openSet f0_state f0_votes f0_heard f0_names f0_name f0_slot f0_parts f0_trouble f0_troubled f0_happened f0_commitCount f0_first f0_waiting f0_sent f0_lostCount a1 a2 a3 a4 a5 a6 a7 a8 a9 a10 a11 a12 a13 a14 a15 a16 p0 = true) (hk : ∀ {r_ : Nat} {R_ : Int32}, R_ = nI r_ → ∀ {f1 f2 f3 f4 f5 f6 f7 f8 f9 f10 f11 f12 f13 f14 f15 f16 b1 b2 b3 b4 b5 b6 b7 b8 b9 b10 b11 b12 b13 b14 b15 b16 : Nat}, kk r_ f1 f2 f3 f4 f5 f6 f7 f8 f9 f10 f11 f12 f13 f14 f15 f16 b1 b2 b3 b4 b5 b6 b7 b8 b9 b10 b11 b12 b13 b14 b15 b16 = true → post R_ ((nI f1), (nI f2), (nI f3), (nI f4), (nI f5), (nI f6), (nI f7), (nI f8), (nI f9), (nI f10), (nI f11), (nI f12), (nI f13), (nI f14), (nI f15), (nI f16), (zb_va c b1), (zb_ka b2), (zb_ka b3), (zb_ka b4), (zb_ka b5), (zb_va c b6), (zb_va c b7), (zb_ka b8), (zb_ka b9), (zb_va c b10), (zb_ka b11), (zb_ka b12), (zb_ka b13), (zb_ka b14), (zb_ka b15), (zb_ka b16))) : wpX_abort post ((nI f0_openSet), (nI f0_state), (nI f0_votes), (nI f0_heard), (nI f0_names), (nI f0_name), (nI f0_slot), (nI f0_parts), (nI f0_trouble), (nI f0_troubled), (nI f0_happened), (nI f0_commitCount), (nI f0_first), (nI f0_waiting), (nI f0_sent), (nI f0_lostCount), (zb_va c a1), (zb_ka a2), (zb_ka a3), (zb_ka a4), (zb_ka a5), (zb_va c a6), (zb_va c a7), (zb_ka a8), (zb_ka a9), (zb_va c a10), (zb_ka a11), (zb_ka a12), (zb_ka a13), (zb_ka a14), (zb_ka a15), (zb_ka a16)) X_p0 := by
  subst e_p0
  unfold zq_pX_abort at h
  unfold wpX_abort
  refine zr_pX_isOpen hc rfl h ?_
  intro r_1 R_ eR_ h
  subst eR_
  refine zb_if_ok (zb_eqP rfl (rfl : (0 : Int32) = nI 0)) h ?_ ?_
  · intro h
    exact hk zb_m100000 h
  · intro h
    refine ⟨70, ?_⟩
    exact zr_X_abort_15 hc hk rfl _ (rfl : (0 : Int32) = nI 0) (rfl : (0 : Int32) = nI 0) h
noncomputable def zq_pX_crash (kk : Nat → Nat → Nat → Nat → Nat → Nat → Nat → Nat → Nat → Nat → Nat → Nat → Nat → Nat → Nat → Nat → Nat → Nat → Nat → Nat → Nat → Nat → Nat → Nat → Nat → Nat → Nat → Nat → Nat → Nat → Nat → Nat → Nat → Bool) (f0_openSet f0_state f0_votes f0_heard f0_names f0_name f0_slot f0_parts f0_trouble f0_troubled f0_happened f0_commitCount f0_first f0_waiting f0_sent f0_lostCount a1 a2 a3 a4 a5 a6 a7 a8 a9 a10 a11 a12 a13 a14 a15 a16 p0 : Nat) : Bool := (zb_if (zb_lt p0 0) (kk 4294867296 f0_openSet f0_state f0_votes f0_heard f0_names f0_name f0_slot f0_parts f0_trouble f0_troubled f0_happened f0_commitCount f0_first f0_waiting f0_sent f0_lostCount a1 a2 a3 a4 a5 a6 a7 a8 a9 a10 a11 a12 a13 a14 a15 a16) (zb_if (zb_le p0 3) (zb_if (zb_eq p0 3) (zq_pX_breakLeader (fun r_69 f0_openSet_70 f0_state_71 f0_votes_72 f0_heard_73 f0_names_74 f0_name_75 f0_slot_76 f0_parts_77 f0_trouble_78 f0_troubled_79 f0_happened_80 f0_commitCount_81 f0_first_82 f0_waiting_83 f0_sent_84 f0_lostCount_85 am181_88 am182_91 am183_94 am184_97 am185_100 am186_103 am187_106 am188_109 am189_112 am1810_115 am1811_118 am1812_121 am1813_124 am1814_127 am1815_130 am1816_133 => (kk r_69 f0_openSet_70 f0_state_71 f0_votes_72 f0_heard_73 f0_names_74 f0_name_75 f0_slot_76 f0_parts_77 f0_trouble_78 f0_troubled_79 f0_happened_80 f0_commitCount_81 f0_first_82 f0_waiting_83 f0_sent_84 f0_lostCount_85 am181_88 am182_91 am183_94 am184_97 am185_100 am186_103 am187_106 am188_109 am189_112 am1810_115 am1811_118 am1812_121 am1813_124 am1814_127 am1815_130 am1816_133)) f0_openSet f0_state f0_votes f0_heard f0_names f0_name f0_slot f0_parts f0_trouble f0_troubled f0_happened f0_commitCount f0_first f0_waiting f0_sent f0_lostCount a1 a2 a3 a4 a5 a6 a7 a8 a9 a10 a11 a12 a13 a14 a15 a16) (zq_pX_breakDown (fun r_4 f0_openSet_5 f0_state_6 f0_votes_7 f0_heard_8 f0_names_9 f0_name_10 f0_slot_11 f0_parts_12 f0_trouble_13 f0_troubled_14 f0_happened_15 f0_commitCount_16 f0_first_17 f0_waiting_18 f0_sent_19 f0_lostCount_20 am261_23 am262_26 am263_29 am264_32 am265_35 am266_38 am267_41 am268_44 am269_47 am2610_50 am2611_53 am2612_56 am2613_59 am2614_62 am2615_65 am2616_68 => (kk r_4 f0_openSet_5 f0_state_6 f0_votes_7 f0_heard_8 f0_names_9 f0_name_10 f0_slot_11 f0_parts_12 f0_trouble_13 f0_troubled_14 f0_happened_15 f0_commitCount_16 f0_first_17 f0_waiting_18 f0_sent_19 f0_lostCount_20 am261_23 am262_26 am263_29 am264_32 am265_35 am266_38 am267_41 am268_44 am269_47 am2610_50 am2611_53 am2612_56 am2613_59 am2614_62 am2615_65 am2616_68)) f0_openSet f0_state f0_votes f0_heard f0_names f0_name f0_slot f0_parts f0_trouble f0_troubled f0_happened f0_commitCount f0_first f0_waiting f0_sent f0_lostCount a1 a2 a3 a4 a5 a6 a7 a8 a9 a10 a11 a12 a13 a14 a15 a16 p0)) (kk 4294867296 f0_openSet f0_state f0_votes f0_heard f0_names f0_name f0_slot f0_parts f0_trouble f0_troubled f0_happened f0_commitCount f0_first f0_waiting f0_sent f0_lostCount a1 a2 a3 a4 a5 a6 a7 a8 a9 a10 a11 a12 a13 a14 a15 a16)))
theorem zr_pX_crash {c : Nat} (hc : c ≤ 1023) {post : Int32 → St2 → Prop} {kk : Nat → Nat → Nat → Nat → Nat → Nat → Nat → Nat → Nat → Nat → Nat → Nat → Nat → Nat → Nat → Nat → Nat → Nat → Nat → Nat → Nat → Nat → Nat → Nat → Nat → Nat → Nat → Nat → Nat → Nat → Nat → Nat → Nat → Bool} {f0_openSet f0_state f0_votes f0_heard f0_names f0_name f0_slot f0_parts f0_trouble f0_troubled f0_happened f0_commitCount f0_first f0_waiting f0_sent f0_lostCount a1 a2 a3 a4 a5 a6 a7 a8 a9 a10 a11 a12 a13 a14 a15 a16 p0 : Nat} {X_p0 : Int32} (e_p0 : X_p0 = nI p0) (h : zq_pX_crash kk f0_openSet f0_state f0_votes f0_heard f0_names f0_name f0_slot f0_parts f0_trouble f0_troubled f0_happened f0_commitCount f0_first f0_waiting f0_sent f0_lostCount a1 a2 a3 a4 a5 a6 a7 a8 a9 a10 a11 a12 a13 a14 a15 a16 p0 = true) (hk : ∀ {r_ : Nat} {R_ : Int32}, R_ = nI r_ → ∀ {f1 f2 f3 f4 f5 f6 f7 f8 f9 f10 f11 f12 f13 f14 f15 f16 b1 b2 b3 b4 b5 b6 b7 b8 b9 b10 b11 b12 b13 b14 b15 b16 : Nat}, kk r_ f1 f2 f3 f4 f5 f6 f7 f8 f9 f10 f11 f12 f13 f14 f15 f16 b1 b2 b3 b4 b5 b6 b7 b8 b9 b10 b11 b12 b13 b14 b15 b16 = true → post R_ ((nI f1), (nI f2), (nI f3), (nI f4), (nI f5), (nI f6), (nI f7), (nI f8), (nI f9), (nI f10), (nI f11), (nI f12), (nI f13), (nI f14), (nI f15), (nI f16), (zb_va c b1), (zb_ka b2), (zb_ka b3), (zb_ka b4), (zb_ka b5), (zb_va c b6), (zb_va c b7), (zb_ka b8), (zb_ka b9), (zb_va c b10), (zb_ka b11), (zb_ka b12), (zb_ka b13), (zb_ka b14), (zb_ka b15), (zb_ka b16))) : wpX_crash post ((nI f0_openSet), (nI f0_state), (nI f0_votes), (nI f0_heard), (nI f0_names), (nI f0_name), (nI f0_slot), (nI f0_parts), (nI f0_trouble), (nI f0_troubled), (nI f0_happened), (nI f0_commitCount), (nI f0_first), (nI f0_waiting), (nI f0_sent), (nI f0_lostCount), (zb_va c a1), (zb_ka a2), (zb_ka a3), (zb_ka a4), (zb_ka a5), (zb_va c a6), (zb_va c a7), (zb_ka a8), (zb_ka a9), (zb_va c a10), (zb_ka a11), (zb_ka a12), (zb_ka a13), (zb_ka a14), (zb_ka a15), (zb_ka a16)) X_p0 := by
  subst e_p0
  unfold zq_pX_crash at h
  unfold wpX_crash
  refine zb_if_ok (zb_ltP rfl (rfl : (0 : Int32) = nI 0)) h ?_ ?_
  · intro h
    exact hk zb_m100000 h
  · intro h
    refine zb_if_ok (zb_leP rfl (rfl : (3 : Int32) = nI 3)) h ?_ ?_
    · intro h
      refine zb_if_ok (zb_eqP rfl (rfl : (3 : Int32) = nI 3)) h ?_ ?_
      · intro h
        refine zr_pX_breakLeader hc h ?_
        intro r_69 R_ eR_ f0_openSet_70 f0_state_71 f0_votes_72 f0_heard_73 f0_names_74 f0_name_75 f0_slot_76 f0_parts_77 f0_trouble_78 f0_troubled_79 f0_happened_80 f0_commitCount_81 f0_first_82 f0_waiting_83 f0_sent_84 f0_lostCount_85 am181_88 am182_91 am183_94 am184_97 am185_100 am186_103 am187_106 am188_109 am189_112 am1810_115 am1811_118 am1812_121 am1813_124 am1814_127 am1815_130 am1816_133 h
        subst eR_
        exact hk rfl h
      · intro h
        refine zr_pX_breakDown hc rfl h ?_
        intro r_4 R_ eR_ f0_openSet_5 f0_state_6 f0_votes_7 f0_heard_8 f0_names_9 f0_name_10 f0_slot_11 f0_parts_12 f0_trouble_13 f0_troubled_14 f0_happened_15 f0_commitCount_16 f0_first_17 f0_waiting_18 f0_sent_19 f0_lostCount_20 am261_23 am262_26 am263_29 am264_32 am265_35 am266_38 am267_41 am268_44 am269_47 am2610_50 am2611_53 am2612_56 am2613_59 am2614_62 am2615_65 am2616_68 h
        subst eR_
        exact hk rfl h
    · intro h
      exact hk zb_m100000 h
end
section
noncomputable def zq_X_begin_36 (kk : Nat → Nat → Nat → Nat → Nat → Nat → Nat → Nat → Nat → Nat → Nat → Nat → Nat → Nat → Nat → Nat → Nat → Nat → Nat → Nat → Nat → Nat → Nat → Nat → Nat → Nat → Nat → Nat → Nat → Nat → Nat → Nat → Nat → Bool) (x1 f0_openSet f0_state f0_votes f0_heard f0_names f0_name f0_slot f0_parts f0_trouble f0_troubled f0_happened f0_commitCount f0_first f0_waiting f0_sent f0_lostCount : Nat) : Nat → Nat → Nat → Nat → Nat → Nat → Nat → Nat → Nat → Nat → Nat → Nat → Nat → Nat → Nat → Nat → Nat → Nat → Bool
  | 0 => fun _ _ _ _ _ _ _ _ _ _ _ _ _ _ _ _ _ => false
  | n + 1 => fun x2 a1 a2 a3 a4 a5 a6 a7 a8 a9 a10 a11 a12 a13 a14 a15 a16 => (zb_if (zb_le 3 x2) (kk x1 f0_openSet f0_state f0_votes f0_heard f0_names f0_name f0_slot f0_parts f0_trouble f0_troubled f0_happened f0_commitCount f0_first f0_waiting f0_sent f0_lostCount a1 a2 a3 a4 a5 a6 a7 a8 a9 a10 a11 a12 a13 a14 a15 a16) (zb_in (Nat.add (Nat.mul x1 3) x2) 12 (zb_let (zb_wr a11 (zb_cl (Nat.add (Nat.mul x1 3) x2)) 0) (fun a11_10 => (zb_in (Nat.add (Nat.mul x1 3) x2) 12 (zb_let (zb_wr a12 (zb_cl (Nat.add (Nat.mul x1 3) x2)) 0) (fun a12_12 => (zb_let (Nat.add x2 1) (fun x2_13 => (zq_X_begin_36 kk x1 f0_openSet f0_state f0_votes f0_heard f0_names f0_name f0_slot f0_parts f0_trouble f0_troubled f0_happened f0_commitCount f0_first f0_waiting f0_sent f0_lostCount n x2_13 a1 a2 a3 a4 a5 a6 a7 a8 a9 a10 a11_10 a12_12 a13 a14 a15 a16))))))))))
theorem zr_X_begin_36 {c : Nat} (hc : c ≤ 1023) {post : Int32 → St2 → Prop} {kk : Nat → Nat → Nat → Nat → Nat → Nat → Nat → Nat → Nat → Nat → Nat → Nat → Nat → Nat → Nat → Nat → Nat → Nat → Nat → Nat → Nat → Nat → Nat → Nat → Nat → Nat → Nat → Nat → Nat → Nat → Nat → Nat → Nat → Bool} (hk : ∀ {r_ : Nat} {R_ : Int32}, R_ = nI r_ → ∀ {f1 f2 f3 f4 f5 f6 f7 f8 f9 f10 f11 f12 f13 f14 f15 f16 b1 b2 b3 b4 b5 b6 b7 b8 b9 b10 b11 b12 b13 b14 b15 b16 : Nat}, kk r_ f1 f2 f3 f4 f5 f6 f7 f8 f9 f10 f11 f12 f13 f14 f15 f16 b1 b2 b3 b4 b5 b6 b7 b8 b9 b10 b11 b12 b13 b14 b15 b16 = true → post R_ ((nI f1), (nI f2), (nI f3), (nI f4), (nI f5), (nI f6), (nI f7), (nI f8), (nI f9), (nI f10), (nI f11), (nI f12), (nI f13), (nI f14), (nI f15), (nI f16), (zb_va c b1), (zb_ka b2), (zb_ka b3), (zb_ka b4), (zb_ka b5), (zb_va c b6), (zb_va c b7), (zb_ka b8), (zb_ka b9), (zb_va c b10), (zb_ka b11), (zb_ka b12), (zb_ka b13), (zb_ka b14), (zb_ka b15), (zb_ka b16))) {x1 f0_openSet f0_state f0_votes f0_heard f0_names f0_name f0_slot f0_parts f0_trouble f0_troubled f0_happened f0_commitCount f0_first f0_waiting f0_sent f0_lostCount : Nat} {X_x1 : Int32} (e_x1 : X_x1 = nI x1) : ∀ (n : Nat) {x2 a1 a2 a3 a4 a5 a6 a7 a8 a9 a10 a11 a12 a13 a14 a15 a16 : Nat} {X_x2 : Int32}, X_x2 = nI x2 → zq_X_begin_36 kk x1 f0_openSet f0_state f0_votes f0_heard f0_names f0_name f0_slot f0_parts f0_trouble f0_troubled f0_happened f0_commitCount f0_first f0_waiting f0_sent f0_lostCount n x2 a1 a2 a3 a4 a5 a6 a7 a8 a9 a10 a11 a12 a13 a14 a15 a16 = true → wX_begin_36 post X_x1 (nI f0_openSet) (nI f0_state) (nI f0_votes) (nI f0_heard) (nI f0_names) (nI f0_name) (nI f0_slot) (nI f0_parts) (nI f0_trouble) (nI f0_troubled) (nI f0_happened) (nI f0_commitCount) (nI f0_first) (nI f0_waiting) (nI f0_sent) (nI f0_lostCount) n X_x2 (zb_va c a1) (zb_ka a2) (zb_ka a3) (zb_ka a4) (zb_ka a5) (zb_va c a6) (zb_va c a7) (zb_ka a8) (zb_ka a9) (zb_va c a10) (zb_ka a11) (zb_ka a12) (zb_ka a13) (zb_ka a14) (zb_ka a15) (zb_ka a16) := by
  subst e_x1
  intro n
  induction n with
  | zero =>
    intro x2 a1 a2 a3 a4 a5 a6 a7 a8 a9 a10 a11 a12 a13 a14 a15 a16 X_x2 e_x2 h
    exact absurd (show false = true from h) Bool.false_ne_true
  | succ n ih =>
    intro x2 a1 a2 a3 a4 a5 a6 a7 a8 a9 a10 a11 a12 a13 a14 a15 a16 X_x2 e_x2 h
    subst e_x2
    refine zb_if_ok (zb_leP (rfl : (3 : Int32) = nI 3) rfl) h ?_ ?_
    · intro h
      exact hk rfl h
    · intro h
      refine zb_in_ok (zb_addP (zb_mulP rfl (rfl : (3 : Int32) = nI 3)) rfl) (by decide) h ?_
      intro h
      refine zb_let_ka h (zb_upK (zb_addP (zb_mulP rfl (rfl : (3 : Int32) = nI 3)) rfl) (rfl : (0 : Int32) = nI 0)) ?_
      intro h
      refine zb_in_ok (zb_addP (zb_mulP rfl (rfl : (3 : Int32) = nI 3)) rfl) (by decide) h ?_
      intro h
      refine zb_let_ka h (zb_upK (zb_addP (zb_mulP rfl (rfl : (3 : Int32) = nI 3)) rfl) (rfl : (0 : Int32) = nI 0)) ?_
      intro h
      refine zb_let_k h (zb_addP rfl (rfl : (1 : Int32) = nI 1)) ?_
      intro h
      exact ih rfl h
noncomputable def zq_X_begin_2 (kk : Nat → Nat → Nat → Nat → Nat → Nat → Nat → Nat → Nat → Nat → Nat → Nat → Nat → Nat → Nat → Nat → Nat → Nat → Nat → Nat → Nat → Nat → Nat → Nat → Nat → Nat → Nat → Nat → Nat → Nat → Nat → Nat → Nat → Bool) (f0_openSet f0_state f0_votes f0_heard f0_names f0_name f0_slot f0_parts f0_trouble f0_troubled f0_happened f0_commitCount f0_first f0_waiting f0_sent f0_lostCount a1 a2 a3 a4 a5 a6 a7 a8 a9 a10 a11 a12 a13 a14 a15 a16 : Nat) : Nat → Nat → Bool
  | 0 => fun _ => false
  | n + 1 => fun x1 => (zb_if (zb_le 4 x1) (kk 4294767296 f0_openSet f0_state f0_votes f0_heard f0_names f0_name f0_slot f0_parts f0_trouble f0_troubled f0_happened f0_commitCount f0_first f0_waiting f0_sent f0_lostCount a1 a2 a3 a4 a5 a6 a7 a8 a9 a10 a11 a12 a13 a14 a15 a16) (zq_pX_isOpen (fun r_2 => (zb_if (zb_eq r_2 0) (zb_let (Nat.lor f0_openSet (zb_shl 1 x1)) (fun f_5 => (zb_in x1 4 (zb_let (zb_wr a9 (zb_cl x1) 0) (fun a9_7 => (zq_X_begin_36 kk x1 f_5 f0_state f0_votes f0_heard f0_names f0_name f0_slot f0_parts f0_trouble f0_troubled f0_happened f0_commitCount f0_first f0_waiting f0_sent f0_lostCount 70 0 a1 a2 a3 a4 a5 a6 a7 a8 a9_7 a10 a11 a12 a13 a14 a15 a16)))))) (zb_let (Nat.add x1 1) (fun x1_4 => (zq_X_begin_2 kk f0_openSet f0_state f0_votes f0_heard f0_names f0_name f0_slot f0_parts f0_trouble f0_troubled f0_happened f0_commitCount f0_first f0_waiting f0_sent f0_lostCount a1 a2 a3 a4 a5 a6 a7 a8 a9 a10 a11 a12 a13 a14 a15 a16 n x1_4))))) f0_openSet f0_state f0_votes f0_heard f0_names f0_name f0_slot f0_parts f0_trouble f0_troubled f0_happened f0_commitCount f0_first f0_waiting f0_sent f0_lostCount a1 a2 a3 a4 a5 a6 a7 a8 a9 a10 a11 a12 a13 a14 a15 a16 x1))
theorem zr_X_begin_2 {c : Nat} (hc : c ≤ 1023) {post : Int32 → St2 → Prop} {kk : Nat → Nat → Nat → Nat → Nat → Nat → Nat → Nat → Nat → Nat → Nat → Nat → Nat → Nat → Nat → Nat → Nat → Nat → Nat → Nat → Nat → Nat → Nat → Nat → Nat → Nat → Nat → Nat → Nat → Nat → Nat → Nat → Nat → Bool} (hk : ∀ {r_ : Nat} {R_ : Int32}, R_ = nI r_ → ∀ {f1 f2 f3 f4 f5 f6 f7 f8 f9 f10 f11 f12 f13 f14 f15 f16 b1 b2 b3 b4 b5 b6 b7 b8 b9 b10 b11 b12 b13 b14 b15 b16 : Nat}, kk r_ f1 f2 f3 f4 f5 f6 f7 f8 f9 f10 f11 f12 f13 f14 f15 f16 b1 b2 b3 b4 b5 b6 b7 b8 b9 b10 b11 b12 b13 b14 b15 b16 = true → post R_ ((nI f1), (nI f2), (nI f3), (nI f4), (nI f5), (nI f6), (nI f7), (nI f8), (nI f9), (nI f10), (nI f11), (nI f12), (nI f13), (nI f14), (nI f15), (nI f16), (zb_va c b1), (zb_ka b2), (zb_ka b3), (zb_ka b4), (zb_ka b5), (zb_va c b6), (zb_va c b7), (zb_ka b8), (zb_ka b9), (zb_va c b10), (zb_ka b11), (zb_ka b12), (zb_ka b13), (zb_ka b14), (zb_ka b15), (zb_ka b16))) {f0_openSet f0_state f0_votes f0_heard f0_names f0_name f0_slot f0_parts f0_trouble f0_troubled f0_happened f0_commitCount f0_first f0_waiting f0_sent f0_lostCount a1 a2 a3 a4 a5 a6 a7 a8 a9 a10 a11 a12 a13 a14 a15 a16 : Nat} : ∀ (n : Nat) {x1 : Nat} {X_x1 : Int32}, X_x1 = nI x1 → zq_X_begin_2 kk f0_openSet f0_state f0_votes f0_heard f0_names f0_name f0_slot f0_parts f0_trouble f0_troubled f0_happened f0_commitCount f0_first f0_waiting f0_sent f0_lostCount a1 a2 a3 a4 a5 a6 a7 a8 a9 a10 a11 a12 a13 a14 a15 a16 n x1 = true → wX_begin_2 post (nI f0_openSet) (nI f0_state) (nI f0_votes) (nI f0_heard) (nI f0_names) (nI f0_name) (nI f0_slot) (nI f0_parts) (nI f0_trouble) (nI f0_troubled) (nI f0_happened) (nI f0_commitCount) (nI f0_first) (nI f0_waiting) (nI f0_sent) (nI f0_lostCount) (zb_va c a1) (zb_ka a2) (zb_ka a3) (zb_ka a4) (zb_ka a5) (zb_va c a6) (zb_va c a7) (zb_ka a8) (zb_ka a9) (zb_va c a10) (zb_ka a11) (zb_ka a12) (zb_ka a13) (zb_ka a14) (zb_ka a15) (zb_ka a16) n X_x1 := by
  intro n
  induction n with
  | zero =>
    intro x1 X_x1 e_x1 h
    exact absurd (show false = true from h) Bool.false_ne_true
  | succ n ih =>
    intro x1 X_x1 e_x1 h
    subst e_x1
    refine zb_if_ok (zb_leP (rfl : (4 : Int32) = nI 4) rfl) h ?_ ?_
    · intro h
      exact hk zb_m200000 h
    · intro h
      refine zr_pX_isOpen hc rfl h ?_
      intro r_2 R_ eR_ h
      subst eR_
      refine zb_if_ok (zb_eqP rfl (rfl : (0 : Int32) = nI 0)) h ?_ ?_
      · intro h
        refine zb_let_k h (zb_orP rfl (zb_shlP (rfl : (1 : Int32) = nI 1) rfl)) ?_
        intro h
        refine zb_in_ok rfl (by decide) h ?_
        intro h
        refine zb_let_ka h (zb_upK rfl (rfl : (0 : Int32) = nI 0)) ?_
        intro h
        refine ⟨70, ?_⟩
        exact zr_X_begin_36 hc hk rfl _ (rfl : (0 : Int32) = nI 0) h
      · intro h
        refine zb_let_k h (zb_addP rfl (rfl : (1 : Int32) = nI 1)) ?_
        intro h
        exact ih rfl h
noncomputable def zq_pX_begin (kk : Nat → Nat → Nat → Nat → Nat → Nat → Nat → Nat → Nat → Nat → Nat → Nat → Nat → Nat → Nat → Nat → Nat → Nat → Nat → Nat → Nat → Nat → Nat → Nat → Nat → Nat → Nat → Nat → Nat → Nat → Nat → Nat → Nat → Bool) (f0_openSet f0_state f0_votes f0_heard f0_names f0_name f0_slot f0_parts f0_trouble f0_troubled f0_happened f0_commitCount f0_first f0_waiting f0_sent f0_lostCount a1 a2 a3 a4 a5 a6 a7 a8 a9 a10 a11 a12 a13 a14 a15 a16 : Nat) : Bool := (zq_X_begin_2 kk f0_openSet f0_state f0_votes f0_heard f0_names f0_name f0_slot f0_parts f0_trouble f0_troubled f0_happened f0_commitCount f0_first f0_waiting f0_sent f0_lostCount a1 a2 a3 a4 a5 a6 a7 a8 a9 a10 a11 a12 a13 a14 a15 a16 70 0)
theorem zr_pX_begin {c : Nat} (hc : c ≤ 1023) {post : Int32 → St2 → Prop} {kk : Nat → Nat → Nat → Nat → Nat → Nat → Nat → Nat → Nat → Nat → Nat → Nat → Nat → Nat → Nat → Nat → Nat → Nat → Nat → Nat → Nat → Nat → Nat → Nat → Nat → Nat → Nat → Nat → Nat → Nat → Nat → Nat → Nat → Bool} {f0_openSet f0_state f0_votes f0_heard f0_names f0_name f0_slot f0_parts f0_trouble f0_troubled f0_happened f0_commitCount f0_first f0_waiting f0_sent f0_lostCount a1 a2 a3 a4 a5 a6 a7 a8 a9 a10 a11 a12 a13 a14 a15 a16 : Nat} (h : zq_pX_begin kk f0_openSet f0_state f0_votes f0_heard f0_names f0_name f0_slot f0_parts f0_trouble f0_troubled f0_happened f0_commitCount f0_first f0_waiting f0_sent f0_lostCount a1 a2 a3 a4 a5 a6 a7 a8 a9 a10 a11 a12 a13 a14 a15 a16 = true) (hk : ∀ {r_ : Nat} {R_ : Int32}, R_ = nI r_ → ∀ {f1 f2 f3 f4 f5 f6 f7 f8 f9 f10 f11 f12 f13 f14 f15 f16 b1 b2 b3 b4 b5 b6 b7 b8 b9 b10 b11 b12 b13 b14 b15 b16 : Nat}, kk r_ f1 f2 f3 f4 f5 f6 f7 f8 f9 f10 f11 f12 f13 f14 f15 f16 b1 b2 b3 b4 b5 b6 b7 b8 b9 b10 b11 b12 b13 b14 b15 b16 = true → post R_ ((nI f1), (nI f2), (nI f3), (nI f4), (nI f5), (nI f6), (nI f7), (nI f8), (nI f9), (nI f10), (nI f11), (nI f12), (nI f13), (nI f14), (nI f15), (nI f16), (zb_va c b1), (zb_ka b2), (zb_ka b3), (zb_ka b4), (zb_ka b5), (zb_va c b6), (zb_va c b7), (zb_ka b8), (zb_ka b9), (zb_va c b10), (zb_ka b11), (zb_ka b12), (zb_ka b13), (zb_ka b14), (zb_ka b15), (zb_ka b16))) : wpX_begin post ((nI f0_openSet), (nI f0_state), (nI f0_votes), (nI f0_heard), (nI f0_names), (nI f0_name), (nI f0_slot), (nI f0_parts), (nI f0_trouble), (nI f0_troubled), (nI f0_happened), (nI f0_commitCount), (nI f0_first), (nI f0_waiting), (nI f0_sent), (nI f0_lostCount), (zb_va c a1), (zb_ka a2), (zb_ka a3), (zb_ka a4), (zb_ka a5), (zb_va c a6), (zb_va c a7), (zb_ka a8), (zb_ka a9), (zb_va c a10), (zb_ka a11), (zb_ka a12), (zb_ka a13), (zb_ka a14), (zb_ka a15), (zb_ka a16)) := by
  unfold zq_pX_begin at h
  unfold wpX_begin
  refine ⟨70, ?_⟩
  exact zr_X_begin_2 hc hk _ (rfl : (0 : Int32) = nI 0) h
noncomputable def zq_pX_isKey (kk : Nat → Bool) (p0 : Nat) : Bool := (zb_if (zb_lt p0 0) (kk 0) (zb_if (zb_le 12 p0) (kk 0) (kk 1)))
theorem zr_pX_isKey {c : Nat} (hc : c ≤ 1023) {post : Int32 → Prop} {kk : Nat → Bool} {p0 : Nat} {X_p0 : Int32} (e_p0 : X_p0 = nI p0) (h : zq_pX_isKey kk p0 = true) (hk : ∀ {r_ : Nat} {R_ : Int32}, R_ = nI r_ → kk r_  = true → post R_ ) : wpX_isKey post () X_p0 := by
  subst e_p0
  unfold zq_pX_isKey at h
  unfold wpX_isKey
  refine zb_if_ok (zb_ltP rfl (rfl : (0 : Int32) = nI 0)) h ?_ ?_
  · intro h
    exact hk (rfl : (0 : Int32) = nI 0) h
  · intro h
    refine zb_if_ok (zb_leP (rfl : (12 : Int32) = nI 12) rfl) h ?_ ?_
    · intro h
      exact hk (rfl : (0 : Int32) = nI 0) h
    · intro h
      exact hk (rfl : (1 : Int32) = nI 1) h
noncomputable def zq_pX_put (kk : Nat → Nat → Nat → Nat → Nat → Nat → Nat → Nat → Nat → Nat → Nat → Nat → Nat → Nat → Nat → Nat → Nat → Nat → Nat → Nat → Nat → Nat → Nat → Nat → Nat → Nat → Nat → Nat → Nat → Nat → Nat → Nat → Nat → Bool) (f0_openSet f0_state f0_votes f0_heard f0_names f0_name f0_slot f0_parts f0_trouble f0_troubled f0_happened f0_commitCount f0_first f0_waiting f0_sent f0_lostCount a1 a2 a3 a4 a5 a6 a7 a8 a9 a10 a11 a12 a13 a14 a15 a16 p0 p1 p2 : Nat) : Bool := (zq_pX_isOpen (fun r_1 => (zb_if (zb_eq r_1 0) (kk (zb_kv 4294867296) f0_openSet f0_state f0_votes f0_heard f0_names f0_name f0_slot f0_parts f0_trouble f0_troubled f0_happened f0_commitCount f0_first f0_waiting f0_sent f0_lostCount a1 a2 a3 a4 a5 a6 a7 a8 a9 a10 a11 a12 a13 a14 a15 a16) (zq_pX_isKey (fun r_3 => (zb_if (zb_eq r_3 0) (kk (zb_kv 4294867296) f0_openSet f0_state f0_votes f0_heard f0_names f0_name f0_slot f0_parts f0_trouble f0_troubled f0_happened f0_commitCount f0_first f0_waiting f0_sent f0_lostCount a1 a2 a3 a4 a5 a6 a7 a8 a9 a10 a11 a12 a13 a14 a15 a16) (zq_pX_isNumber (fun r_5 => (zb_if (zb_eq r_5 0) (kk (zb_kv 4294867296) f0_openSet f0_state f0_votes f0_heard f0_names f0_name f0_slot f0_parts f0_trouble f0_troubled f0_happened f0_commitCount f0_first f0_waiting f0_sent f0_lostCount a1 a2 a3 a4 a5 a6 a7 a8 a9 a10 a11 a12 a13 a14 a15 a16) (zq_pX_isFree (fun r_7 => (zb_if (zb_eq r_7 0) (kk (zb_kv 4294667296) f0_openSet f0_state f0_votes f0_heard f0_names f0_name f0_slot f0_parts f0_trouble f0_troubled f0_happened f0_commitCount f0_first f0_waiting f0_sent f0_lostCount a1 a2 a3 a4 a5 a6 a7 a8 a9 a10 a11 a12 a13 a14 a15 a16) (zq_pX_seen (fun r_9 => (zq_pX_writeKey (fun f0_openSet_11 f0_state_12 f0_votes_13 f0_heard_14 f0_names_15 f0_name_16 f0_slot_17 f0_parts_18 f0_trouble_19 f0_troubled_20 f0_happened_21 f0_commitCount_22 f0_first_23 f0_waiting_24 f0_sent_25 f0_lostCount_26 am491_29 am492_32 am493_35 am494_38 am495_41 am496_44 am497_47 am498_50 am499_53 am4910_56 am4911_59 am4912_62 am4913_65 am4914_68 am4915_71 am4916_74 => (kk r_9 f0_openSet_11 f0_state_12 f0_votes_13 f0_heard_14 f0_names_15 f0_name_16 f0_slot_17 f0_parts_18 f0_trouble_19 f0_troubled_20 f0_happened_21 f0_commitCount_22 f0_first_23 f0_waiting_24 f0_sent_25 f0_lostCount_26 am491_29 am492_32 am493_35 am494_38 am495_41 am496_44 am497_47 am498_50 am499_53 am4910_56 am4911_59 am4912_62 am4913_65 am4914_68 am4915_71 am4916_74)) f0_openSet f0_state f0_votes f0_heard f0_names f0_name f0_slot f0_parts f0_trouble f0_troubled f0_happened f0_commitCount f0_first f0_waiting f0_sent f0_lostCount a1 a2 a3 a4 a5 a6 a7 a8 a9 a10 a11 a12 a13 a14 a15 a16 p0 p1 p2)) f0_openSet f0_state f0_votes f0_heard f0_names f0_name f0_slot f0_parts f0_trouble f0_troubled f0_happened f0_commitCount f0_first f0_waiting f0_sent f0_lostCount a1 a2 a3 a4 a5 a6 a7 a8 a9 a10 a11 a12 a13 a14 a15 a16 p0 p1))) f0_openSet f0_state f0_votes f0_heard f0_names f0_name f0_slot f0_parts f0_trouble f0_troubled f0_happened f0_commitCount f0_first f0_waiting f0_sent f0_lostCount a1 a2 a3 a4 a5 a6 a7 a8 a9 a10 a11 a12 a13 a14 a15 a16 p0 p1))) p2))) p1))) f0_openSet f0_state f0_votes f0_heard f0_names f0_name f0_slot f0_parts f0_trouble f0_troubled f0_happened f0_commitCount f0_first f0_waiting f0_sent f0_lostCount a1 a2 a3 a4 a5 a6 a7 a8 a9 a10 a11 a12 a13 a14 a15 a16 p0)
theorem zr_pX_put {c : Nat} (hc : c ≤ 1023) {post : Int32 → St2 → Prop} {kk : Nat → Nat → Nat → Nat → Nat → Nat → Nat → Nat → Nat → Nat → Nat → Nat → Nat → Nat → Nat → Nat → Nat → Nat → Nat → Nat → Nat → Nat → Nat → Nat → Nat → Nat → Nat → Nat → Nat → Nat → Nat → Nat → Nat → Bool} {f0_openSet f0_state f0_votes f0_heard f0_names f0_name f0_slot f0_parts f0_trouble f0_troubled f0_happened f0_commitCount f0_first f0_waiting f0_sent f0_lostCount a1 a2 a3 a4 a5 a6 a7 a8 a9 a10 a11 a12 a13 a14 a15 a16 p0 p1 p2 : Nat} {X_p0 : Int32} (e_p0 : X_p0 = nI p0) {X_p1 : Int32} (e_p1 : X_p1 = nI p1) {X_p2 : Int32} (e_p2 : X_p2 = zb_dv c p2) (h : zq_pX_put kk f0_openSet f0_state f0_votes f0_heard f0_names f0_name f0_slot f0_parts f0_trouble f0_troubled f0_happened f0_commitCount f0_first f0_waiting f0_sent f0_lostCount a1 a2 a3 a4 a5 a6 a7 a8 a9 a10 a11 a12 a13 a14 a15 a16 p0 p1 p2 = true) (hk : ∀ {r_ : Nat} {R_ : Int32}, R_ = zb_dv c r_ → ∀ {f1 f2 f3 f4 f5 f6 f7 f8 f9 f10 f11 f12 f13 f14 f15 f16 b1 b2 b3 b4 b5 b6 b7 b8 b9 b10 b11 b12 b13 b14 b15 b16 : Nat}, kk r_ f1 f2 f3 f4 f5 f6 f7 f8 f9 f10 f11 f12 f13 f14 f15 f16 b1 b2 b3 b4 b5 b6 b7 b8 b9 b10 b11 b12 b13 b14 b15 b16 = true → post R_ ((nI f1), (nI f2), (nI f3), (nI f4), (nI f5), (nI f6), (nI f7), (nI f8), (nI f9), (nI f10), (nI f11), (nI f12), (nI f13), (nI f14), (nI f15), (nI f16), (zb_va c b1), (zb_ka b2), (zb_ka b3), (zb_ka b4), (zb_ka b5), (zb_va c b6), (zb_va c b7), (zb_ka b8), (zb_ka b9), (zb_va c b10), (zb_ka b11), (zb_ka b12), (zb_ka b13), (zb_ka b14), (zb_ka b15), (zb_ka b16))) : wpX_put post ((nI f0_openSet), (nI f0_state), (nI f0_votes), (nI f0_heard), (nI f0_names), (nI f0_name), (nI f0_slot), (nI f0_parts), (nI f0_trouble), (nI f0_troubled), (nI f0_happened), (nI f0_commitCount), (nI f0_first), (nI f0_waiting), (nI f0_sent), (nI f0_lostCount), (zb_va c a1), (zb_ka a2), (zb_ka a3), (zb_ka a4), (zb_ka a5), (zb_va c a6), (zb_va c a7), (zb_ka a8), (zb_ka a9), (zb_va c a10), (zb_ka a11), (zb_ka a12), (zb_ka a13), (zb_ka a14), (zb_ka a15), (zb_ka a16)) X_p0 X_p1 X_p2 := by
  subst e_p0
  subst e_p1
  subst e_p2
  unfold zq_pX_put at h
  unfold wpX_put
  refine zr_pX_isOpen hc rfl h ?_
  intro r_1 R_ eR_ h
  subst eR_
  refine zb_if_ok (zb_eqP rfl (rfl : (0 : Int32) = nI 0)) h ?_ ?_
  · intro h
    exact hk (zb_kvP zb_m100000) h
  · intro h
    refine zr_pX_isKey hc rfl h ?_
    intro r_3 R_ eR_ h
    subst eR_
    refine zb_if_ok (zb_eqP rfl (rfl : (0 : Int32) = nI 0)) h ?_ ?_
    · intro h
      exact hk (zb_kvP zb_m100000) h
    · intro h
      refine zr_pX_isNumber hc rfl h ?_
      intro r_5 R_ eR_ h
      subst eR_
      refine zb_if_ok (zb_eqP rfl (rfl : (0 : Int32) = nI 0)) h ?_ ?_
      · intro h
        exact hk (zb_kvP zb_m100000) h
      · intro h
        refine zr_pX_isFree hc rfl rfl h ?_
        intro r_7 R_ eR_ h
        subst eR_
        refine zb_if_ok (zb_eqP rfl (rfl : (0 : Int32) = nI 0)) h ?_ ?_
        · intro h
          exact hk (zb_kvP zb_m300000) h
        · intro h
          refine zr_pX_seen hc rfl rfl h ?_
          intro r_9 R_ eR_ h
          subst eR_
          refine zr_pX_writeKey hc rfl rfl rfl h ?_
          intro f0_openSet_11 f0_state_12 f0_votes_13 f0_heard_14 f0_names_15 f0_name_16 f0_slot_17 f0_parts_18 f0_trouble_19 f0_troubled_20 f0_happened_21 f0_commitCount_22 f0_first_23 f0_waiting_24 f0_sent_25 f0_lostCount_26 am491_29 am492_32 am493_35 am494_38 am495_41 am496_44 am497_47 am498_50 am499_53 am4910_56 am4911_59 am4912_62 am4913_65 am4914_68 am4915_71 am4916_74 h
          exact hk rfl h
noncomputable def zq_pX_peek (kk : Nat → Bool) (f0_openSet f0_state f0_votes f0_heard f0_names f0_name f0_slot f0_parts f0_trouble f0_troubled f0_happened f0_commitCount f0_first f0_waiting f0_sent f0_lostCount a1 a2 a3 a4 a5 a6 a7 a8 a9 a10 a11 a12 a13 a14 a15 a16 p0 : Nat) : Bool := (zq_pX_isKey (fun r_1 => (zb_if (zb_eq r_1 0) (kk (zb_kv 4294867296)) (zb_in p0 12 (kk (zb_rd a7 p0))))) p0)
theorem zr_pX_peek {c : Nat} (hc : c ≤ 1023) {post : Int32 → Prop} {kk : Nat → Bool} {f0_openSet f0_state f0_votes f0_heard f0_names f0_name f0_slot f0_parts f0_trouble f0_troubled f0_happened f0_commitCount f0_first f0_waiting f0_sent f0_lostCount a1 a2 a3 a4 a5 a6 a7 a8 a9 a10 a11 a12 a13 a14 a15 a16 p0 : Nat} {X_p0 : Int32} (e_p0 : X_p0 = nI p0) (h : zq_pX_peek kk f0_openSet f0_state f0_votes f0_heard f0_names f0_name f0_slot f0_parts f0_trouble f0_troubled f0_happened f0_commitCount f0_first f0_waiting f0_sent f0_lostCount a1 a2 a3 a4 a5 a6 a7 a8 a9 a10 a11 a12 a13 a14 a15 a16 p0 = true) (hk : ∀ {r_ : Nat} {R_ : Int32}, R_ = zb_dv c r_ → kk r_  = true → post R_ ) : wpX_peek post ((nI f0_openSet), (nI f0_state), (nI f0_votes), (nI f0_heard), (nI f0_names), (nI f0_name), (nI f0_slot), (nI f0_parts), (nI f0_trouble), (nI f0_troubled), (nI f0_happened), (nI f0_commitCount), (nI f0_first), (nI f0_waiting), (nI f0_sent), (nI f0_lostCount), (zb_va c a1), (zb_ka a2), (zb_ka a3), (zb_ka a4), (zb_ka a5), (zb_va c a6), (zb_va c a7), (zb_ka a8), (zb_ka a9), (zb_va c a10), (zb_ka a11), (zb_ka a12), (zb_ka a13), (zb_ka a14), (zb_ka a15), (zb_ka a16)) X_p0 := by
  subst e_p0
  unfold zq_pX_peek at h
  unfold wpX_peek
  refine zr_pX_isKey hc rfl h ?_
  intro r_1 R_ eR_ h
  subst eR_
  refine zb_if_ok (zb_eqP rfl (rfl : (0 : Int32) = nI 0)) h ?_ ?_
  · intro h
    exact hk (zb_kvP zb_m100000) h
  · intro h
    refine zb_in_ok rfl (by decide) h ?_
    intro h
    exact hk (zb_rdV rfl) h
noncomputable def zq_pX_get (kk : Nat → Nat → Nat → Nat → Nat → Nat → Nat → Nat → Nat → Nat → Nat → Nat → Nat → Nat → Nat → Nat → Nat → Nat → Nat → Nat → Nat → Nat → Nat → Nat → Nat → Nat → Nat → Nat → Nat → Nat → Nat → Nat → Nat → Bool) (f0_openSet f0_state f0_votes f0_heard f0_names f0_name f0_slot f0_parts f0_trouble f0_troubled f0_happened f0_commitCount f0_first f0_waiting f0_sent f0_lostCount a1 a2 a3 a4 a5 a6 a7 a8 a9 a10 a11 a12 a13 a14 a15 a16 p0 p1 : Nat) : Bool := (zq_pX_isOpen (fun r_1 => (zb_if (zb_eq r_1 0) (kk (zb_kv 4294867296) f0_openSet f0_state f0_votes f0_heard f0_names f0_name f0_slot f0_parts f0_trouble f0_troubled f0_happened f0_commitCount f0_first f0_waiting f0_sent f0_lostCount a1 a2 a3 a4 a5 a6 a7 a8 a9 a10 a11 a12 a13 a14 a15 a16) (zq_pX_isKey (fun r_3 => (zb_if (zb_eq r_3 0) (kk (zb_kv 4294867296) f0_openSet f0_state f0_votes f0_heard f0_names f0_name f0_slot f0_parts f0_trouble f0_troubled f0_happened f0_commitCount f0_first f0_waiting f0_sent f0_lostCount a1 a2 a3 a4 a5 a6 a7 a8 a9 a10 a11 a12 a13 a14 a15 a16) (zq_pX_isFree (fun r_5 => (zb_if (zb_eq r_5 0) (kk (zb_kv 4294667296) f0_openSet f0_state f0_votes f0_heard f0_names f0_name f0_slot f0_parts f0_trouble f0_troubled f0_happened f0_commitCount f0_first f0_waiting f0_sent f0_lostCount a1 a2 a3 a4 a5 a6 a7 a8 a9 a10 a11 a12 a13 a14 a15 a16) (zb_in p1 12 (zb_let (zb_wr a8 (zb_cl p1) (zb_i8 p0)) (fun a8_8 => (zq_pX_seen (fun r_9 => (kk r_9 f0_openSet f0_state f0_votes f0_heard f0_names f0_name f0_slot f0_parts f0_trouble f0_troubled f0_happened f0_commitCount f0_first f0_waiting f0_sent f0_lostCount a1 a2 a3 a4 a5 a6 a7 a8_8 a9 a10 a11 a12 a13 a14 a15 a16)) f0_openSet f0_state f0_votes f0_heard f0_names f0_name f0_slot f0_parts f0_trouble f0_troubled f0_happened f0_commitCount f0_first f0_waiting f0_sent f0_lostCount a1 a2 a3 a4 a5 a6 a7 a8_8 a9 a10 a11 a12 a13 a14 a15 a16 p0 p1)))))) f0_openSet f0_state f0_votes f0_heard f0_names f0_name f0_slot f0_parts f0_trouble f0_troubled f0_happened f0_commitCount f0_first f0_waiting f0_sent f0_lostCount a1 a2 a3 a4 a5 a6 a7 a8 a9 a10 a11 a12 a13 a14 a15 a16 p0 p1))) p1))) f0_openSet f0_state f0_votes f0_heard f0_names f0_name f0_slot f0_parts f0_trouble f0_troubled f0_happened f0_commitCount f0_first f0_waiting f0_sent f0_lostCount a1 a2 a3 a4 a5 a6 a7 a8 a9 a10 a11 a12 a13 a14 a15 a16 p0)
theorem zr_pX_get {c : Nat} (hc : c ≤ 1023) {post : Int32 → St2 → Prop} {kk : Nat → Nat → Nat → Nat → Nat → Nat → Nat → Nat → Nat → Nat → Nat → Nat → Nat → Nat → Nat → Nat → Nat → Nat → Nat → Nat → Nat → Nat → Nat → Nat → Nat → Nat → Nat → Nat → Nat → Nat → Nat → Nat → Nat → Bool} {f0_openSet f0_state f0_votes f0_heard f0_names f0_name f0_slot f0_parts f0_trouble f0_troubled f0_happened f0_commitCount f0_first f0_waiting f0_sent f0_lostCount a1 a2 a3 a4 a5 a6 a7 a8 a9 a10 a11 a12 a13 a14 a15 a16 p0 p1 : Nat} {X_p0 : Int32} (e_p0 : X_p0 = nI p0) {X_p1 : Int32} (e_p1 : X_p1 = nI p1) (h : zq_pX_get kk f0_openSet f0_state f0_votes f0_heard f0_names f0_name f0_slot f0_parts f0_trouble f0_troubled f0_happened f0_commitCount f0_first f0_waiting f0_sent f0_lostCount a1 a2 a3 a4 a5 a6 a7 a8 a9 a10 a11 a12 a13 a14 a15 a16 p0 p1 = true) (hk : ∀ {r_ : Nat} {R_ : Int32}, R_ = zb_dv c r_ → ∀ {f1 f2 f3 f4 f5 f6 f7 f8 f9 f10 f11 f12 f13 f14 f15 f16 b1 b2 b3 b4 b5 b6 b7 b8 b9 b10 b11 b12 b13 b14 b15 b16 : Nat}, kk r_ f1 f2 f3 f4 f5 f6 f7 f8 f9 f10 f11 f12 f13 f14 f15 f16 b1 b2 b3 b4 b5 b6 b7 b8 b9 b10 b11 b12 b13 b14 b15 b16 = true → post R_ ((nI f1), (nI f2), (nI f3), (nI f4), (nI f5), (nI f6), (nI f7), (nI f8), (nI f9), (nI f10), (nI f11), (nI f12), (nI f13), (nI f14), (nI f15), (nI f16), (zb_va c b1), (zb_ka b2), (zb_ka b3), (zb_ka b4), (zb_ka b5), (zb_va c b6), (zb_va c b7), (zb_ka b8), (zb_ka b9), (zb_va c b10), (zb_ka b11), (zb_ka b12), (zb_ka b13), (zb_ka b14), (zb_ka b15), (zb_ka b16))) : wpX_get post ((nI f0_openSet), (nI f0_state), (nI f0_votes), (nI f0_heard), (nI f0_names), (nI f0_name), (nI f0_slot), (nI f0_parts), (nI f0_trouble), (nI f0_troubled), (nI f0_happened), (nI f0_commitCount), (nI f0_first), (nI f0_waiting), (nI f0_sent), (nI f0_lostCount), (zb_va c a1), (zb_ka a2), (zb_ka a3), (zb_ka a4), (zb_ka a5), (zb_va c a6), (zb_va c a7), (zb_ka a8), (zb_ka a9), (zb_va c a10), (zb_ka a11), (zb_ka a12), (zb_ka a13), (zb_ka a14), (zb_ka a15), (zb_ka a16)) X_p0 X_p1 := by
  subst e_p0
  subst e_p1
  unfold zq_pX_get at h
  unfold wpX_get
  refine zr_pX_isOpen hc rfl h ?_
  intro r_1 R_ eR_ h
  subst eR_
  refine zb_if_ok (zb_eqP rfl (rfl : (0 : Int32) = nI 0)) h ?_ ?_
  · intro h
    exact hk (zb_kvP zb_m100000) h
  · intro h
    refine zr_pX_isKey hc rfl h ?_
    intro r_3 R_ eR_ h
    subst eR_
    refine zb_if_ok (zb_eqP rfl (rfl : (0 : Int32) = nI 0)) h ?_ ?_
    · intro h
      exact hk (zb_kvP zb_m100000) h
    · intro h
      refine zr_pX_isFree hc rfl rfl h ?_
      intro r_5 R_ eR_ h
      subst eR_
      refine zb_if_ok (zb_eqP rfl (rfl : (0 : Int32) = nI 0)) h ?_ ?_
      · intro h
        exact hk (zb_kvP zb_m300000) h
      · intro h
        refine zb_in_ok rfl (by decide) h ?_
        intro h
        refine zb_let_ka h (zb_upK rfl (zb_i8P rfl)) ?_
        intro h
        refine zr_pX_seen hc rfl rfl h ?_
        intro r_9 R_ eR_ h
        subst eR_
        exact hk rfl h
noncomputable def zq_pX_commits (kk : Nat → Bool) (f0_openSet f0_state f0_votes f0_heard f0_names f0_name f0_slot f0_parts f0_trouble f0_troubled f0_happened f0_commitCount f0_first f0_waiting f0_sent f0_lostCount a1 a2 a3 a4 a5 a6 a7 a8 a9 a10 a11 a12 a13 a14 a15 a16 : Nat) : Bool := (kk f0_commitCount)
theorem zr_pX_commits {c : Nat} (hc : c ≤ 1023) {post : Int32 → Prop} {kk : Nat → Bool} {f0_openSet f0_state f0_votes f0_heard f0_names f0_name f0_slot f0_parts f0_trouble f0_troubled f0_happened f0_commitCount f0_first f0_waiting f0_sent f0_lostCount a1 a2 a3 a4 a5 a6 a7 a8 a9 a10 a11 a12 a13 a14 a15 a16 : Nat} (h : zq_pX_commits kk f0_openSet f0_state f0_votes f0_heard f0_names f0_name f0_slot f0_parts f0_trouble f0_troubled f0_happened f0_commitCount f0_first f0_waiting f0_sent f0_lostCount a1 a2 a3 a4 a5 a6 a7 a8 a9 a10 a11 a12 a13 a14 a15 a16 = true) (hk : ∀ {r_ : Nat} {R_ : Int32}, R_ = nI r_ → kk r_  = true → post R_ ) : wpX_commits post ((nI f0_openSet), (nI f0_state), (nI f0_votes), (nI f0_heard), (nI f0_names), (nI f0_name), (nI f0_slot), (nI f0_parts), (nI f0_trouble), (nI f0_troubled), (nI f0_happened), (nI f0_commitCount), (nI f0_first), (nI f0_waiting), (nI f0_sent), (nI f0_lostCount), (zb_va c a1), (zb_ka a2), (zb_ka a3), (zb_ka a4), (zb_ka a5), (zb_va c a6), (zb_va c a7), (zb_ka a8), (zb_ka a9), (zb_va c a10), (zb_ka a11), (zb_ka a12), (zb_ka a13), (zb_ka a14), (zb_ka a15), (zb_ka a16)) := by
  unfold zq_pX_commits at h
  unfold wpX_commits
  exact hk rfl h
noncomputable def zq_pX_open (kk : Nat → Bool) (f0_openSet f0_state f0_votes f0_heard f0_names f0_name f0_slot f0_parts f0_trouble f0_troubled f0_happened f0_commitCount f0_first f0_waiting f0_sent f0_lostCount a1 a2 a3 a4 a5 a6 a7 a8 a9 a10 a11 a12 a13 a14 a15 a16 : Nat) : Bool := (kk f0_openSet)
theorem zr_pX_open {c : Nat} (hc : c ≤ 1023) {post : Int32 → Prop} {kk : Nat → Bool} {f0_openSet f0_state f0_votes f0_heard f0_names f0_name f0_slot f0_parts f0_trouble f0_troubled f0_happened f0_commitCount f0_first f0_waiting f0_sent f0_lostCount a1 a2 a3 a4 a5 a6 a7 a8 a9 a10 a11 a12 a13 a14 a15 a16 : Nat} (h : zq_pX_open kk f0_openSet f0_state f0_votes f0_heard f0_names f0_name f0_slot f0_parts f0_trouble f0_troubled f0_happened f0_commitCount f0_first f0_waiting f0_sent f0_lostCount a1 a2 a3 a4 a5 a6 a7 a8 a9 a10 a11 a12 a13 a14 a15 a16 = true) (hk : ∀ {r_ : Nat} {R_ : Int32}, R_ = nI r_ → kk r_  = true → post R_ ) : wpX_open post ((nI f0_openSet), (nI f0_state), (nI f0_votes), (nI f0_heard), (nI f0_names), (nI f0_name), (nI f0_slot), (nI f0_parts), (nI f0_trouble), (nI f0_troubled), (nI f0_happened), (nI f0_commitCount), (nI f0_first), (nI f0_waiting), (nI f0_sent), (nI f0_lostCount), (zb_va c a1), (zb_ka a2), (zb_ka a3), (zb_ka a4), (zb_ka a5), (zb_va c a6), (zb_va c a7), (zb_ka a8), (zb_ka a9), (zb_va c a10), (zb_ka a11), (zb_ka a12), (zb_ka a13), (zb_ka a14), (zb_ka a15), (zb_ka a16)) := by
  unfold zq_pX_open at h
  unfold wpX_open
  exact hk rfl h
noncomputable def zq_X_total_4 (kk : Nat → Bool) (f0_openSet f0_state f0_votes f0_heard f0_names f0_name f0_slot f0_parts f0_trouble f0_troubled f0_happened f0_commitCount f0_first f0_waiting f0_sent f0_lostCount a1 a2 a3 a4 a5 a6 a7 a8 a9 a10 a11 a12 a13 a14 a15 a16 : Nat) : Nat → Nat → Nat → Bool
  | 0 => fun _ _ => false
  | n + 1 => fun x1 x2 => (zb_if (zb_le 12 x2) (kk x1) (zb_in x2 12 (zb_let (zb_vadd x1 (zb_rd a7 x2)) (fun x1_3 => (zb_let (Nat.add x2 1) (fun x2_4 => (zq_X_total_4 kk f0_openSet f0_state f0_votes f0_heard f0_names f0_name f0_slot f0_parts f0_trouble f0_troubled f0_happened f0_commitCount f0_first f0_waiting f0_sent f0_lostCount a1 a2 a3 a4 a5 a6 a7 a8 a9 a10 a11 a12 a13 a14 a15 a16 n x1_3 x2_4)))))))
theorem zr_X_total_4 {c : Nat} (hc : c ≤ 1023) {post : Int32 → Prop} {kk : Nat → Bool} (hk : ∀ {r_ : Nat} {R_ : Int32}, R_ = zb_dv c r_ → kk r_  = true → post R_ ) {f0_openSet f0_state f0_votes f0_heard f0_names f0_name f0_slot f0_parts f0_trouble f0_troubled f0_happened f0_commitCount f0_first f0_waiting f0_sent f0_lostCount a1 a2 a3 a4 a5 a6 a7 a8 a9 a10 a11 a12 a13 a14 a15 a16 : Nat} : ∀ (n : Nat) {x1 x2 : Nat} {X_x1 X_x2 : Int32}, X_x1 = zb_dv c x1 → X_x2 = nI x2 → zq_X_total_4 kk f0_openSet f0_state f0_votes f0_heard f0_names f0_name f0_slot f0_parts f0_trouble f0_troubled f0_happened f0_commitCount f0_first f0_waiting f0_sent f0_lostCount a1 a2 a3 a4 a5 a6 a7 a8 a9 a10 a11 a12 a13 a14 a15 a16 n x1 x2 = true → wX_total_4 post (nI f0_openSet) (nI f0_state) (nI f0_votes) (nI f0_heard) (nI f0_names) (nI f0_name) (nI f0_slot) (nI f0_parts) (nI f0_trouble) (nI f0_troubled) (nI f0_happened) (nI f0_commitCount) (nI f0_first) (nI f0_waiting) (nI f0_sent) (nI f0_lostCount) (zb_va c a1) (zb_ka a2) (zb_ka a3) (zb_ka a4) (zb_ka a5) (zb_va c a6) (zb_va c a7) (zb_ka a8) (zb_ka a9) (zb_va c a10) (zb_ka a11) (zb_ka a12) (zb_ka a13) (zb_ka a14) (zb_ka a15) (zb_ka a16) n X_x1 X_x2 := by
  intro n
  induction n with
  | zero =>
    intro x1 x2 X_x1 X_x2 e_x1 e_x2 h
    exact absurd (show false = true from h) Bool.false_ne_true
  | succ n ih =>
    intro x1 x2 X_x1 X_x2 e_x1 e_x2 h
    subst e_x1
    subst e_x2
    refine zb_if_ok (zb_leP (rfl : (12 : Int32) = nI 12) rfl) h ?_ ?_
    · intro h
      exact hk rfl h
    · intro h
      refine zb_in_ok rfl (by decide) h ?_
      intro h
      refine zb_let_v h (zb_vaddP rfl (zb_rdV rfl)) ?_
      intro h
      refine zb_let_k h (zb_addP rfl (rfl : (1 : Int32) = nI 1)) ?_
      intro h
      exact ih rfl rfl h
noncomputable def zq_pX_total (kk : Nat → Bool) (f0_openSet f0_state f0_votes f0_heard f0_names f0_name f0_slot f0_parts f0_trouble f0_troubled f0_happened f0_commitCount f0_first f0_waiting f0_sent f0_lostCount a1 a2 a3 a4 a5 a6 a7 a8 a9 a10 a11 a12 a13 a14 a15 a16 : Nat) : Bool := (zq_X_total_4 kk f0_openSet f0_state f0_votes f0_heard f0_names f0_name f0_slot f0_parts f0_trouble f0_troubled f0_happened f0_commitCount f0_first f0_waiting f0_sent f0_lostCount a1 a2 a3 a4 a5 a6 a7 a8 a9 a10 a11 a12 a13 a14 a15 a16 70 (zb_kv 0) 0)
theorem zr_pX_total {c : Nat} (hc : c ≤ 1023) {post : Int32 → Prop} {kk : Nat → Bool} {f0_openSet f0_state f0_votes f0_heard f0_names f0_name f0_slot f0_parts f0_trouble f0_troubled f0_happened f0_commitCount f0_first f0_waiting f0_sent f0_lostCount a1 a2 a3 a4 a5 a6 a7 a8 a9 a10 a11 a12 a13 a14 a15 a16 : Nat} (h : zq_pX_total kk f0_openSet f0_state f0_votes f0_heard f0_names f0_name f0_slot f0_parts f0_trouble f0_troubled f0_happened f0_commitCount f0_first f0_waiting f0_sent f0_lostCount a1 a2 a3 a4 a5 a6 a7 a8 a9 a10 a11 a12 a13 a14 a15 a16 = true) (hk : ∀ {r_ : Nat} {R_ : Int32}, R_ = zb_dv c r_ → kk r_  = true → post R_ ) : wpX_total post ((nI f0_openSet), (nI f0_state), (nI f0_votes), (nI f0_heard), (nI f0_names), (nI f0_name), (nI f0_slot), (nI f0_parts), (nI f0_trouble), (nI f0_troubled), (nI f0_happened), (nI f0_commitCount), (nI f0_first), (nI f0_waiting), (nI f0_sent), (nI f0_lostCount), (zb_va c a1), (zb_ka a2), (zb_ka a3), (zb_ka a4), (zb_ka a5), (zb_va c a6), (zb_va c a7), (zb_ka a8), (zb_ka a9), (zb_va c a10), (zb_ka a11), (zb_ka a12), (zb_ka a13), (zb_ka a14), (zb_ka a15), (zb_ka a16)) := by
  unfold zq_pX_total at h
  unfold wpX_total
  refine ⟨70, ?_⟩
  exact zr_X_total_4 hc hk _ (zb_kvP (rfl : (0 : Int32) = nI 0)) (rfl : (0 : Int32) = nI 0) h
noncomputable def zq_X_sum_16 (kk : Nat → Bool) (f0_openSet f0_state f0_votes f0_heard f0_names f0_name f0_slot f0_parts f0_trouble f0_troubled f0_happened f0_commitCount f0_first f0_waiting f0_sent f0_lostCount a1 a2 a3 a4 a5 a6 a7 a8 a9 a10 a11 a12 a13 a14 a15 a16 : Nat) : Nat → Nat → Nat → Bool
  | 0 => fun _ _ => false
  | n + 1 => fun x2 x3 => (zb_if (zb_le 12 x3) (kk x2) (zb_in x3 12 (zb_let (zb_vadd x2 (zb_rd a7 x3)) (fun x2_5 => (zb_let (Nat.add x3 3) (fun x3_6 => (zq_X_sum_16 kk f0_openSet f0_state f0_votes f0_heard f0_names f0_name f0_slot f0_parts f0_trouble f0_troubled f0_happened f0_commitCount f0_first f0_waiting f0_sent f0_lostCount a1 a2 a3 a4 a5 a6 a7 a8 a9 a10 a11 a12 a13 a14 a15 a16 n x2_5 x3_6)))))))
theorem zr_X_sum_16 {c : Nat} (hc : c ≤ 1023) {post : Int32 → Prop} {kk : Nat → Bool} (hk : ∀ {r_ : Nat} {R_ : Int32}, R_ = zb_dv c r_ → kk r_  = true → post R_ ) {f0_openSet f0_state f0_votes f0_heard f0_names f0_name f0_slot f0_parts f0_trouble f0_troubled f0_happened f0_commitCount f0_first f0_waiting f0_sent f0_lostCount a1 a2 a3 a4 a5 a6 a7 a8 a9 a10 a11 a12 a13 a14 a15 a16 : Nat} : ∀ (n : Nat) {x2 x3 : Nat} {X_x2 X_x3 : Int32}, X_x2 = zb_dv c x2 → X_x3 = nI x3 → zq_X_sum_16 kk f0_openSet f0_state f0_votes f0_heard f0_names f0_name f0_slot f0_parts f0_trouble f0_troubled f0_happened f0_commitCount f0_first f0_waiting f0_sent f0_lostCount a1 a2 a3 a4 a5 a6 a7 a8 a9 a10 a11 a12 a13 a14 a15 a16 n x2 x3 = true → wX_sum_16 post (nI f0_openSet) (nI f0_state) (nI f0_votes) (nI f0_heard) (nI f0_names) (nI f0_name) (nI f0_slot) (nI f0_parts) (nI f0_trouble) (nI f0_troubled) (nI f0_happened) (nI f0_commitCount) (nI f0_first) (nI f0_waiting) (nI f0_sent) (nI f0_lostCount) (zb_va c a1) (zb_ka a2) (zb_ka a3) (zb_ka a4) (zb_ka a5) (zb_va c a6) (zb_va c a7) (zb_ka a8) (zb_ka a9) (zb_va c a10) (zb_ka a11) (zb_ka a12) (zb_ka a13) (zb_ka a14) (zb_ka a15) (zb_ka a16) n X_x2 X_x3 := by
  intro n
  induction n with
  | zero =>
    intro x2 x3 X_x2 X_x3 e_x2 e_x3 h
    exact absurd (show false = true from h) Bool.false_ne_true
  | succ n ih =>
    intro x2 x3 X_x2 X_x3 e_x2 e_x3 h
    subst e_x2
    subst e_x3
    refine zb_if_ok (zb_leP (rfl : (12 : Int32) = nI 12) rfl) h ?_ ?_
    · intro h
      exact hk rfl h
    · intro h
      refine zb_in_ok rfl (by decide) h ?_
      intro h
      refine zb_let_v h (zb_vaddP rfl (zb_rdV rfl)) ?_
      intro h
      refine zb_let_k h (zb_addP rfl (rfl : (3 : Int32) = nI 3)) ?_
      intro h
      exact ih rfl rfl h
noncomputable def zq_pX_sum (kk : Nat → Bool) (f0_openSet f0_state f0_votes f0_heard f0_names f0_name f0_slot f0_parts f0_trouble f0_troubled f0_happened f0_commitCount f0_first f0_waiting f0_sent f0_lostCount a1 a2 a3 a4 a5 a6 a7 a8 a9 a10 a11 a12 a13 a14 a15 a16 p0 : Nat) : Bool := (zb_if (zb_lt p0 0) (kk (zb_kv 4294867296)) (zb_if (zb_lt p0 3) (zq_X_sum_16 kk f0_openSet f0_state f0_votes f0_heard f0_names f0_name f0_slot f0_parts f0_trouble f0_troubled f0_happened f0_commitCount f0_first f0_waiting f0_sent f0_lostCount a1 a2 a3 a4 a5 a6 a7 a8 a9 a10 a11 a12 a13 a14 a15 a16 70 (zb_kv 0) p0) (kk (zb_kv 4294867296))))
theorem zr_pX_sum {c : Nat} (hc : c ≤ 1023) {post : Int32 → Prop} {kk : Nat → Bool} {f0_openSet f0_state f0_votes f0_heard f0_names f0_name f0_slot f0_parts f0_trouble f0_troubled f0_happened f0_commitCount f0_first f0_waiting f0_sent f0_lostCount a1 a2 a3 a4 a5 a6 a7 a8 a9 a10 a11 a12 a13 a14 a15 a16 p0 : Nat} {X_p0 : Int32} (e_p0 : X_p0 = nI p0) (h : zq_pX_sum kk f0_openSet f0_state f0_votes f0_heard f0_names f0_name f0_slot f0_parts f0_trouble f0_troubled f0_happened f0_commitCount f0_first f0_waiting f0_sent f0_lostCount a1 a2 a3 a4 a5 a6 a7 a8 a9 a10 a11 a12 a13 a14 a15 a16 p0 = true) (hk : ∀ {r_ : Nat} {R_ : Int32}, R_ = zb_dv c r_ → kk r_  = true → post R_ ) : wpX_sum post ((nI f0_openSet), (nI f0_state), (nI f0_votes), (nI f0_heard), (nI f0_names), (nI f0_name), (nI f0_slot), (nI f0_parts), (nI f0_trouble), (nI f0_troubled), (nI f0_happened), (nI f0_commitCount), (nI f0_first), (nI f0_waiting), (nI f0_sent), (nI f0_lostCount), (zb_va c a1), (zb_ka a2), (zb_ka a3), (zb_ka a4), (zb_ka a5), (zb_va c a6), (zb_va c a7), (zb_ka a8), (zb_ka a9), (zb_va c a10), (zb_ka a11), (zb_ka a12), (zb_ka a13), (zb_ka a14), (zb_ka a15), (zb_ka a16)) X_p0 := by
  subst e_p0
  unfold zq_pX_sum at h
  unfold wpX_sum
  refine zb_if_ok (zb_ltP rfl (rfl : (0 : Int32) = nI 0)) h ?_ ?_
  · intro h
    exact hk (zb_kvP zb_m100000) h
  · intro h
    refine zb_if_ok (zb_ltP rfl (rfl : (3 : Int32) = nI 3)) h ?_ ?_
    · intro h
      refine ⟨70, ?_⟩
      exact zr_X_sum_16 hc hk _ (zb_kvP (rfl : (0 : Int32) = nI 0)) rfl h
    · intro h
      exact hk (zb_kvP zb_m100000) h
noncomputable def zq_pX_holder (kk : Nat → Bool) (f0_openSet f0_state f0_votes f0_heard f0_names f0_name f0_slot f0_parts f0_trouble f0_troubled f0_happened f0_commitCount f0_first f0_waiting f0_sent f0_lostCount a1 a2 a3 a4 a5 a6 a7 a8 a9 a10 a11 a12 a13 a14 a15 a16 p0 : Nat) : Bool := (zq_pX_isKey (fun r_1 => (zb_if (zb_eq r_1 0) (kk 4294867296) (zb_in p0 12 (zb_if (zb_eq (zb_rd a8 p0) 4294967295) (kk 4294767296) (zb_in p0 12 (kk (zb_rd a8 p0))))))) p0)
theorem zr_pX_holder {c : Nat} (hc : c ≤ 1023) {post : Int32 → Prop} {kk : Nat → Bool} {f0_openSet f0_state f0_votes f0_heard f0_names f0_name f0_slot f0_parts f0_trouble f0_troubled f0_happened f0_commitCount f0_first f0_waiting f0_sent f0_lostCount a1 a2 a3 a4 a5 a6 a7 a8 a9 a10 a11 a12 a13 a14 a15 a16 p0 : Nat} {X_p0 : Int32} (e_p0 : X_p0 = nI p0) (h : zq_pX_holder kk f0_openSet f0_state f0_votes f0_heard f0_names f0_name f0_slot f0_parts f0_trouble f0_troubled f0_happened f0_commitCount f0_first f0_waiting f0_sent f0_lostCount a1 a2 a3 a4 a5 a6 a7 a8 a9 a10 a11 a12 a13 a14 a15 a16 p0 = true) (hk : ∀ {r_ : Nat} {R_ : Int32}, R_ = nI r_ → kk r_  = true → post R_ ) : wpX_holder post ((nI f0_openSet), (nI f0_state), (nI f0_votes), (nI f0_heard), (nI f0_names), (nI f0_name), (nI f0_slot), (nI f0_parts), (nI f0_trouble), (nI f0_troubled), (nI f0_happened), (nI f0_commitCount), (nI f0_first), (nI f0_waiting), (nI f0_sent), (nI f0_lostCount), (zb_va c a1), (zb_ka a2), (zb_ka a3), (zb_ka a4), (zb_ka a5), (zb_va c a6), (zb_va c a7), (zb_ka a8), (zb_ka a9), (zb_va c a10), (zb_ka a11), (zb_ka a12), (zb_ka a13), (zb_ka a14), (zb_ka a15), (zb_ka a16)) X_p0 := by
  subst e_p0
  unfold zq_pX_holder at h
  unfold wpX_holder
  refine zr_pX_isKey hc rfl h ?_
  intro r_1 R_ eR_ h
  subst eR_
  refine zb_if_ok (zb_eqP rfl (rfl : (0 : Int32) = nI 0)) h ?_ ?_
  · intro h
    exact hk zb_m100000 h
  · intro h
    refine zb_in_ok rfl (by decide) h ?_
    intro h
    refine zb_if_ok (zb_eqP (zb_rdK rfl) zb_m1) h ?_ ?_
    · intro h
      exact hk zb_m200000 h
    · intro h
      refine zb_in_ok rfl (by decide) h ?_
      intro h
      exact hk (zb_rdK rfl) h
noncomputable def zq_X_keys_14 (kk : Nat → Bool) (x1 f0_openSet f0_state f0_votes f0_heard f0_names f0_name f0_slot f0_parts f0_trouble f0_troubled f0_happened f0_commitCount f0_first f0_waiting f0_sent f0_lostCount a1 a2 a3 a4 a5 a6 a7 a8 a9 a10 a11 a12 a13 a14 a15 a16 : Nat) : Nat → Nat → Nat → Bool
  | 0 => fun _ _ => false
  | n + 1 => fun x2 x3 => (zb_if (zb_le 12 x3) (kk x2) (zb_in x3 12 (zb_if (zb_eq (zb_rd a8 x3) x1) (zb_let (Nat.lor x2 (zb_shl 1 x3)) (fun x2_8 => (zb_let (Nat.add x3 1) (fun x3_9 => (zq_X_keys_14 kk x1 f0_openSet f0_state f0_votes f0_heard f0_names f0_name f0_slot f0_parts f0_trouble f0_troubled f0_happened f0_commitCount f0_first f0_waiting f0_sent f0_lostCount a1 a2 a3 a4 a5 a6 a7 a8 a9 a10 a11 a12 a13 a14 a15 a16 n x2_8 x3_9))))) (zb_let (Nat.lor x2 0) (fun x2_6 => (zb_let (Nat.add x3 1) (fun x3_7 => (zq_X_keys_14 kk x1 f0_openSet f0_state f0_votes f0_heard f0_names f0_name f0_slot f0_parts f0_trouble f0_troubled f0_happened f0_commitCount f0_first f0_waiting f0_sent f0_lostCount a1 a2 a3 a4 a5 a6 a7 a8 a9 a10 a11 a12 a13 a14 a15 a16 n x2_6 x3_7))))))))
theorem zr_X_keys_14 {c : Nat} (hc : c ≤ 1023) {post : Int32 → Prop} {kk : Nat → Bool} (hk : ∀ {r_ : Nat} {R_ : Int32}, R_ = nI r_ → kk r_  = true → post R_ ) {x1 f0_openSet f0_state f0_votes f0_heard f0_names f0_name f0_slot f0_parts f0_trouble f0_troubled f0_happened f0_commitCount f0_first f0_waiting f0_sent f0_lostCount a1 a2 a3 a4 a5 a6 a7 a8 a9 a10 a11 a12 a13 a14 a15 a16 : Nat} {X_x1 : Int32} (e_x1 : X_x1 = nI x1) : ∀ (n : Nat) {x2 x3 : Nat} {X_x2 X_x3 : Int32}, X_x2 = nI x2 → X_x3 = nI x3 → zq_X_keys_14 kk x1 f0_openSet f0_state f0_votes f0_heard f0_names f0_name f0_slot f0_parts f0_trouble f0_troubled f0_happened f0_commitCount f0_first f0_waiting f0_sent f0_lostCount a1 a2 a3 a4 a5 a6 a7 a8 a9 a10 a11 a12 a13 a14 a15 a16 n x2 x3 = true → wX_keys_14 post X_x1 (nI f0_openSet) (nI f0_state) (nI f0_votes) (nI f0_heard) (nI f0_names) (nI f0_name) (nI f0_slot) (nI f0_parts) (nI f0_trouble) (nI f0_troubled) (nI f0_happened) (nI f0_commitCount) (nI f0_first) (nI f0_waiting) (nI f0_sent) (nI f0_lostCount) (zb_va c a1) (zb_ka a2) (zb_ka a3) (zb_ka a4) (zb_ka a5) (zb_va c a6) (zb_va c a7) (zb_ka a8) (zb_ka a9) (zb_va c a10) (zb_ka a11) (zb_ka a12) (zb_ka a13) (zb_ka a14) (zb_ka a15) (zb_ka a16) n X_x2 X_x3 := by
  subst e_x1
  intro n
  induction n with
  | zero =>
    intro x2 x3 X_x2 X_x3 e_x2 e_x3 h
    exact absurd (show false = true from h) Bool.false_ne_true
  | succ n ih =>
    intro x2 x3 X_x2 X_x3 e_x2 e_x3 h
    subst e_x2
    subst e_x3
    refine zb_if_ok (zb_leP (rfl : (12 : Int32) = nI 12) rfl) h ?_ ?_
    · intro h
      exact hk rfl h
    · intro h
      refine zb_in_ok rfl (by decide) h ?_
      intro h
      refine zb_if_ok (zb_eqP (zb_rdK rfl) rfl) h ?_ ?_
      · intro h
        refine zb_let_k h (zb_orP rfl (zb_shlP (rfl : (1 : Int32) = nI 1) rfl)) ?_
        intro h
        refine zb_let_k h (zb_addP rfl (rfl : (1 : Int32) = nI 1)) ?_
        intro h
        exact ih rfl rfl h
      · intro h
        refine zb_let_k h (zb_orP rfl (rfl : (0 : Int32) = nI 0)) ?_
        intro h
        refine zb_let_k h (zb_addP rfl (rfl : (1 : Int32) = nI 1)) ?_
        intro h
        exact ih rfl rfl h
noncomputable def zq_pX_keys (kk : Nat → Bool) (f0_openSet f0_state f0_votes f0_heard f0_names f0_name f0_slot f0_parts f0_trouble f0_troubled f0_happened f0_commitCount f0_first f0_waiting f0_sent f0_lostCount a1 a2 a3 a4 a5 a6 a7 a8 a9 a10 a11 a12 a13 a14 a15 a16 p0 : Nat) : Bool := (zq_pX_isOpen (fun r_1 => (zb_if (zb_eq r_1 0) (kk 0) (zq_X_keys_14 kk p0 f0_openSet f0_state f0_votes f0_heard f0_names f0_name f0_slot f0_parts f0_trouble f0_troubled f0_happened f0_commitCount f0_first f0_waiting f0_sent f0_lostCount a1 a2 a3 a4 a5 a6 a7 a8 a9 a10 a11 a12 a13 a14 a15 a16 70 0 0))) f0_openSet f0_state f0_votes f0_heard f0_names f0_name f0_slot f0_parts f0_trouble f0_troubled f0_happened f0_commitCount f0_first f0_waiting f0_sent f0_lostCount a1 a2 a3 a4 a5 a6 a7 a8 a9 a10 a11 a12 a13 a14 a15 a16 p0)
theorem zr_pX_keys {c : Nat} (hc : c ≤ 1023) {post : Int32 → Prop} {kk : Nat → Bool} {f0_openSet f0_state f0_votes f0_heard f0_names f0_name f0_slot f0_parts f0_trouble f0_troubled f0_happened f0_commitCount f0_first f0_waiting f0_sent f0_lostCount a1 a2 a3 a4 a5 a6 a7 a8 a9 a10 a11 a12 a13 a14 a15 a16 p0 : Nat} {X_p0 : Int32} (e_p0 : X_p0 = nI p0) (h : zq_pX_keys kk f0_openSet f0_state f0_votes f0_heard f0_names f0_name f0_slot f0_parts f0_trouble f0_troubled f0_happened f0_commitCount f0_first f0_waiting f0_sent f0_lostCount a1 a2 a3 a4 a5 a6 a7 a8 a9 a10 a11 a12 a13 a14 a15 a16 p0 = true) (hk : ∀ {r_ : Nat} {R_ : Int32}, R_ = nI r_ → kk r_  = true → post R_ ) : wpX_keys post ((nI f0_openSet), (nI f0_state), (nI f0_votes), (nI f0_heard), (nI f0_names), (nI f0_name), (nI f0_slot), (nI f0_parts), (nI f0_trouble), (nI f0_troubled), (nI f0_happened), (nI f0_commitCount), (nI f0_first), (nI f0_waiting), (nI f0_sent), (nI f0_lostCount), (zb_va c a1), (zb_ka a2), (zb_ka a3), (zb_ka a4), (zb_ka a5), (zb_va c a6), (zb_va c a7), (zb_ka a8), (zb_ka a9), (zb_va c a10), (zb_ka a11), (zb_ka a12), (zb_ka a13), (zb_ka a14), (zb_ka a15), (zb_ka a16)) X_p0 := by
  subst e_p0
  unfold zq_pX_keys at h
  unfold wpX_keys
  refine zr_pX_isOpen hc rfl h ?_
  intro r_1 R_ eR_ h
  subst eR_
  refine zb_if_ok (zb_eqP rfl (rfl : (0 : Int32) = nI 0)) h ?_ ?_
  · intro h
    exact hk (rfl : (0 : Int32) = nI 0) h
  · intro h
    refine ⟨70, ?_⟩
    exact zr_X_keys_14 hc hk rfl _ (rfl : (0 : Int32) = nI 0) (rfl : (0 : Int32) = nI 0) h
noncomputable def zq_pX_written (kk : Nat → Bool) (f0_openSet f0_state f0_votes f0_heard f0_names f0_name f0_slot f0_parts f0_trouble f0_troubled f0_happened f0_commitCount f0_first f0_waiting f0_sent f0_lostCount a1 a2 a3 a4 a5 a6 a7 a8 a9 a10 a11 a12 a13 a14 a15 a16 p0 : Nat) : Bool := (zq_pX_isOpen (fun r_1 => (zb_if (zb_eq r_1 0) (kk 0) (zb_in p0 4 (kk (zb_rd a9 p0))))) f0_openSet f0_state f0_votes f0_heard f0_names f0_name f0_slot f0_parts f0_trouble f0_troubled f0_happened f0_commitCount f0_first f0_waiting f0_sent f0_lostCount a1 a2 a3 a4 a5 a6 a7 a8 a9 a10 a11 a12 a13 a14 a15 a16 p0)
theorem zr_pX_written {c : Nat} (hc : c ≤ 1023) {post : Int32 → Prop} {kk : Nat → Bool} {f0_openSet f0_state f0_votes f0_heard f0_names f0_name f0_slot f0_parts f0_trouble f0_troubled f0_happened f0_commitCount f0_first f0_waiting f0_sent f0_lostCount a1 a2 a3 a4 a5 a6 a7 a8 a9 a10 a11 a12 a13 a14 a15 a16 p0 : Nat} {X_p0 : Int32} (e_p0 : X_p0 = nI p0) (h : zq_pX_written kk f0_openSet f0_state f0_votes f0_heard f0_names f0_name f0_slot f0_parts f0_trouble f0_troubled f0_happened f0_commitCount f0_first f0_waiting f0_sent f0_lostCount a1 a2 a3 a4 a5 a6 a7 a8 a9 a10 a11 a12 a13 a14 a15 a16 p0 = true) (hk : ∀ {r_ : Nat} {R_ : Int32}, R_ = nI r_ → kk r_  = true → post R_ ) : wpX_written post ((nI f0_openSet), (nI f0_state), (nI f0_votes), (nI f0_heard), (nI f0_names), (nI f0_name), (nI f0_slot), (nI f0_parts), (nI f0_trouble), (nI f0_troubled), (nI f0_happened), (nI f0_commitCount), (nI f0_first), (nI f0_waiting), (nI f0_sent), (nI f0_lostCount), (zb_va c a1), (zb_ka a2), (zb_ka a3), (zb_ka a4), (zb_ka a5), (zb_va c a6), (zb_va c a7), (zb_ka a8), (zb_ka a9), (zb_va c a10), (zb_ka a11), (zb_ka a12), (zb_ka a13), (zb_ka a14), (zb_ka a15), (zb_ka a16)) X_p0 := by
  subst e_p0
  unfold zq_pX_written at h
  unfold wpX_written
  refine zr_pX_isOpen hc rfl h ?_
  intro r_1 R_ eR_ h
  subst eR_
  refine zb_if_ok (zb_eqP rfl (rfl : (0 : Int32) = nI 0)) h ?_ ?_
  · intro h
    exact hk (rfl : (0 : Int32) = nI 0) h
  · intro h
    refine zb_in_ok rfl (by decide) h ?_
    intro h
    exact hk (zb_rdK rfl) h
end
section
noncomputable def zq_L_lawOf_955 (kk : Nat → Bool) (z0 z1 : Nat) : Bool := (zb_if (zb_eq z1 z0) (kk 1) (kk 0))
theorem zr_L_lawOf_955 {c : Nat} (hc : c ≤ 1023) {post : Int32 → St0 → Prop} {kk : Nat → Bool} {mc ms kc ks : Nat} {z0 z1 : Nat} {X_z0 : Int32} (e_z0 : X_z0 = nI z0) {X_z1 : Int32} (e_z1 : X_z1 = nI z1) (h : zq_L_lawOf_955 kk z0 z1 = true) (hk : ∀ {r_ : Nat} {R_ : Int32}, R_ = nI r_ → kk r_  = true → post R_ ()) : wL_lawOf_955 post mc ms X_z0 X_z1 kc ks := by
  subst e_z0
  subst e_z1
  unfold zq_L_lawOf_955 at h
  unfold wL_lawOf_955
  refine zb_if_ok (zb_eqP rfl rfl) h ?_ ?_
  · intro h
    exact hk (rfl : (1 : Int32) = nI 1) h
  · intro h
    exact hk (rfl : (0 : Int32) = nI 0) h
noncomputable def zq_L_lawOf_869 (kk : Nat → Bool) (x6 x16 x23 z0 z1 fm0_openSet fm0_state fm0_votes fm0_heard fm0_names fm0_name fm0_slot fm0_parts fm0_trouble fm0_troubled fm0_happened fm0_commitCount fm0_first fm0_waiting fm0_sent fm0_lostCount am8391 am8392 am8393 am8394 am8395 am8396 am8397 am8398 am8399 am83910 am83911 am83912 am83913 am83914 am83915 am83916 : Nat) : Bool := (zb_if3 (zb_eq3 z1 z0) (zb_if (zb_eq x23 1) (zq_pX_peek (fun r_678 => (zb_if3 (zb_eq3 r_678 (zb_kv 77)) (zq_pX_commit (fun r_680 fm0_openSet_681 fm0_state_682 fm0_votes_683 fm0_heard_684 fm0_names_685 fm0_name_686 fm0_slot_687 fm0_parts_688 fm0_trouble_689 fm0_troubled_690 fm0_happened_691 fm0_commitCount_692 fm0_first_693 fm0_waiting_694 fm0_sent_695 fm0_lostCount_696 am8971_699 am8972_702 am8973_705 am8974_708 am8975_711 am8976_714 am8977_717 am8978_720 am8979_723 am89710_726 am89711_729 am89712_732 am89713_735 am89714_738 am89715_741 am89716_744 => (zb_if (zb_eq r_680 4294867296) (zq_pX_crash (fun r_746 fm0_openSet_747 fm0_state_748 fm0_votes_749 fm0_heard_750 fm0_names_751 fm0_name_752 fm0_slot_753 fm0_parts_754 fm0_trouble_755 fm0_troubled_756 fm0_happened_757 fm0_commitCount_758 fm0_first_759 fm0_waiting_760 fm0_sent_761 fm0_lostCount_762 am9081_765 am9082_768 am9083_771 am9084_774 am9085_777 am9086_780 am9087_783 am9088_786 am9089_789 am90810_792 am90811_795 am90812_798 am90813_801 am90814_804 am90815_807 am90816_810 => (zb_if (zb_eq r_746 4294867296) (zq_pX_get (fun r_812 fm0_openSet_813 fm0_state_814 fm0_votes_815 fm0_heard_816 fm0_names_817 fm0_name_818 fm0_slot_819 fm0_parts_820 fm0_trouble_821 fm0_troubled_822 fm0_happened_823 fm0_commitCount_824 fm0_first_825 fm0_waiting_826 fm0_sent_827 fm0_lostCount_828 am9201_831 am9202_834 am9203_837 am9204_840 am9205_843 am9206_846 am9207_849 am9208_852 am9209_855 am92010_858 am92011_861 am92012_864 am92013_867 am92014_870 am92015_873 am92016_876 => (zb_if3 (zb_eq3 r_812 (zb_kv 4294867296)) (zq_pX_peek (fun r_878 => (zb_if3 (zb_eq3 r_878 (zb_kv 4294867296)) (zq_pX_commits (fun r_880 => (zb_if (zb_eq x16 0) (zq_L_lawOf_955 kk 2 r_880) (zq_L_lawOf_955 kk 1 r_880))) fm0_openSet_813 fm0_state_814 fm0_votes_815 fm0_heard_816 fm0_names_817 fm0_name_818 fm0_slot_819 fm0_parts_820 fm0_trouble_821 fm0_troubled_822 fm0_happened_823 fm0_commitCount_824 fm0_first_825 fm0_waiting_826 fm0_sent_827 fm0_lostCount_828 am9201_831 am9202_834 am9203_837 am9204_840 am9205_843 am9206_846 am9207_849 am9208_852 am9209_855 am92010_858 am92011_861 am92012_864 am92013_867 am92014_870 am92015_873 am92016_876) (kk 0))) fm0_openSet_813 fm0_state_814 fm0_votes_815 fm0_heard_816 fm0_names_817 fm0_name_818 fm0_slot_819 fm0_parts_820 fm0_trouble_821 fm0_troubled_822 fm0_happened_823 fm0_commitCount_824 fm0_first_825 fm0_waiting_826 fm0_sent_827 fm0_lostCount_828 am9201_831 am9202_834 am9203_837 am9204_840 am9205_843 am9206_846 am9207_849 am9208_852 am9209_855 am92010_858 am92011_861 am92012_864 am92013_867 am92014_870 am92015_873 am92016_876 12) (kk 0))) fm0_openSet_747 fm0_state_748 fm0_votes_749 fm0_heard_750 fm0_names_751 fm0_name_752 fm0_slot_753 fm0_parts_754 fm0_trouble_755 fm0_troubled_756 fm0_happened_757 fm0_commitCount_758 fm0_first_759 fm0_waiting_760 fm0_sent_761 fm0_lostCount_762 am9081_765 am9082_768 am9083_771 am9084_774 am9085_777 am9086_780 am9087_783 am9088_786 am9089_789 am90810_792 am90811_795 am90812_798 am90813_801 am90814_804 am90815_807 am90816_810 0 0) (kk 0))) fm0_openSet_681 fm0_state_682 fm0_votes_683 fm0_heard_684 fm0_names_685 fm0_name_686 fm0_slot_687 fm0_parts_688 fm0_trouble_689 fm0_troubled_690 fm0_happened_691 fm0_commitCount_692 fm0_first_693 fm0_waiting_694 fm0_sent_695 fm0_lostCount_696 am8971_699 am8972_702 am8973_705 am8974_708 am8975_711 am8976_714 am8977_717 am8978_720 am8979_723 am89710_726 am89711_729 am89712_732 am89713_735 am89714_738 am89715_741 am89716_744 4) (kk 0))) fm0_openSet fm0_state fm0_votes fm0_heard fm0_names fm0_name fm0_slot fm0_parts fm0_trouble fm0_troubled fm0_happened fm0_commitCount fm0_first fm0_waiting fm0_sent fm0_lostCount am8391 am8392 am8393 am8394 am8395 am8396 am8397 am8398 am8399 am83910 am83911 am83912 am83913 am83914 am83915 am83916 0 0 0) (kk 0))) fm0_openSet fm0_state fm0_votes fm0_heard fm0_names fm0_name fm0_slot fm0_parts fm0_trouble fm0_troubled fm0_happened fm0_commitCount fm0_first fm0_waiting fm0_sent fm0_lostCount am8391 am8392 am8393 am8394 am8395 am8396 am8397 am8398 am8399 am83910 am83911 am83912 am83913 am83914 am83915 am83916 (Nat.mul 3 x6)) (kk 0)) (kk 0))
theorem zr_L_lawOf_869 {c : Nat} (hc : c ≤ 1023) {post : Int32 → St0 → Prop} {kk : Nat → Bool} {mc ms kc ks : Nat} {x6 x16 x23 z0 z1 fm0_openSet fm0_state fm0_votes fm0_heard fm0_names fm0_name fm0_slot fm0_parts fm0_trouble fm0_troubled fm0_happened fm0_commitCount fm0_first fm0_waiting fm0_sent fm0_lostCount am8391 am8392 am8393 am8394 am8395 am8396 am8397 am8398 am8399 am83910 am83911 am83912 am83913 am83914 am83915 am83916 : Nat} {X_x6 : Int32} (e_x6 : X_x6 = nI x6) {X_x16 : Int32} (e_x16 : X_x16 = nI x16) {X_x23 : Int32} (e_x23 : X_x23 = nI x23) {X_z0 : Int32} (e_z0 : X_z0 = zb_dv c z0) {X_z1 : Int32} (e_z1 : X_z1 = zb_dv c z1) (h : zq_L_lawOf_869 kk x6 x16 x23 z0 z1 fm0_openSet fm0_state fm0_votes fm0_heard fm0_names fm0_name fm0_slot fm0_parts fm0_trouble fm0_troubled fm0_happened fm0_commitCount fm0_first fm0_waiting fm0_sent fm0_lostCount am8391 am8392 am8393 am8394 am8395 am8396 am8397 am8398 am8399 am83910 am83911 am83912 am83913 am83914 am83915 am83916 = true) (hk : ∀ {r_ : Nat} {R_ : Int32}, R_ = nI r_ → kk r_  = true → post R_ ()) : wL_lawOf_869 post mc ms X_x6 X_x16 X_x23 X_z0 X_z1 kc ks (nI fm0_openSet) (nI fm0_state) (nI fm0_votes) (nI fm0_heard) (nI fm0_names) (nI fm0_name) (nI fm0_slot) (nI fm0_parts) (nI fm0_trouble) (nI fm0_troubled) (nI fm0_happened) (nI fm0_commitCount) (nI fm0_first) (nI fm0_waiting) (nI fm0_sent) (nI fm0_lostCount) (zb_va c am8391) (zb_ka am8392) (zb_ka am8393) (zb_ka am8394) (zb_ka am8395) (zb_va c am8396) (zb_va c am8397) (zb_ka am8398) (zb_ka am8399) (zb_va c am83910) (zb_ka am83911) (zb_ka am83912) (zb_ka am83913) (zb_ka am83914) (zb_ka am83915) (zb_ka am83916) := by
  subst e_x6
  subst e_x16
  subst e_x23
  subst e_z0
  subst e_z1
  unfold zq_L_lawOf_869 at h
  unfold wL_lawOf_869
  refine zb_if3_ok (zb_eq3P hc rfl rfl) h ?_ ?_
  · intro h
    refine zb_if_ok (zb_eqP rfl (rfl : (1 : Int32) = nI 1)) h ?_ ?_
    · intro h
      refine zr_pX_peek hc (zb_mulP (rfl : (3 : Int32) = nI 3) rfl) h ?_
      intro r_678 R_ eR_ h
      subst eR_
      refine zb_if3_ok (zb_eq3P hc rfl (zb_kvP (rfl : (77 : Int32) = nI 77))) h ?_ ?_
      · intro h
        refine zr_pX_commit hc (rfl : (0 : Int32) = nI 0) (rfl : (0 : Int32) = nI 0) (rfl : (0 : Int32) = nI 0) h ?_
        intro r_680 R_ eR_ fm0_openSet_681 fm0_state_682 fm0_votes_683 fm0_heard_684 fm0_names_685 fm0_name_686 fm0_slot_687 fm0_parts_688 fm0_trouble_689 fm0_troubled_690 fm0_happened_691 fm0_commitCount_692 fm0_first_693 fm0_waiting_694 fm0_sent_695 fm0_lostCount_696 am8971_699 am8972_702 am8973_705 am8974_708 am8975_711 am8976_714 am8977_717 am8978_720 am8979_723 am89710_726 am89711_729 am89712_732 am89713_735 am89714_738 am89715_741 am89716_744 h
        subst eR_
        refine zb_if_ok (zb_eqP rfl zb_m100000) h ?_ ?_
        · intro h
          refine zr_pX_crash hc (rfl : (4 : Int32) = nI 4) h ?_
          intro r_746 R_ eR_ fm0_openSet_747 fm0_state_748 fm0_votes_749 fm0_heard_750 fm0_names_751 fm0_name_752 fm0_slot_753 fm0_parts_754 fm0_trouble_755 fm0_troubled_756 fm0_happened_757 fm0_commitCount_758 fm0_first_759 fm0_waiting_760 fm0_sent_761 fm0_lostCount_762 am9081_765 am9082_768 am9083_771 am9084_774 am9085_777 am9086_780 am9087_783 am9088_786 am9089_789 am90810_792 am90811_795 am90812_798 am90813_801 am90814_804 am90815_807 am90816_810 h
          subst eR_
          refine zb_if_ok (zb_eqP rfl zb_m100000) h ?_ ?_
          · intro h
            refine zr_pX_get hc (rfl : (0 : Int32) = nI 0) (rfl : (0 : Int32) = nI 0) h ?_
            intro r_812 R_ eR_ fm0_openSet_813 fm0_state_814 fm0_votes_815 fm0_heard_816 fm0_names_817 fm0_name_818 fm0_slot_819 fm0_parts_820 fm0_trouble_821 fm0_troubled_822 fm0_happened_823 fm0_commitCount_824 fm0_first_825 fm0_waiting_826 fm0_sent_827 fm0_lostCount_828 am9201_831 am9202_834 am9203_837 am9204_840 am9205_843 am9206_846 am9207_849 am9208_852 am9209_855 am92010_858 am92011_861 am92012_864 am92013_867 am92014_870 am92015_873 am92016_876 h
            subst eR_
            refine zb_if3_ok (zb_eq3P hc rfl (zb_kvP zb_m100000)) h ?_ ?_
            · intro h
              refine zr_pX_peek hc (rfl : (12 : Int32) = nI 12) h ?_
              intro r_878 R_ eR_ h
              subst eR_
              refine zb_if3_ok (zb_eq3P hc rfl (zb_kvP zb_m100000)) h ?_ ?_
              · intro h
                refine zr_pX_commits hc h ?_
                intro r_880 R_ eR_ h
                subst eR_
                refine zb_if_ok (zb_eqP rfl (rfl : (0 : Int32) = nI 0)) h ?_ ?_
                · intro h
                  exact zr_L_lawOf_955 hc (rfl : (2 : Int32) = nI 2) rfl h hk
                · intro h
                  exact zr_L_lawOf_955 hc (rfl : (1 : Int32) = nI 1) rfl h hk
              · intro h
                exact hk (rfl : (0 : Int32) = nI 0) h
            · intro h
              exact hk (rfl : (0 : Int32) = nI 0) h
          · intro h
            exact hk (rfl : (0 : Int32) = nI 0) h
        · intro h
          exact hk (rfl : (0 : Int32) = nI 0) h
      · intro h
        exact hk (rfl : (0 : Int32) = nI 0) h
    · intro h
      exact hk (rfl : (0 : Int32) = nI 0) h
  · intro h
    exact hk (rfl : (0 : Int32) = nI 0) h
noncomputable def zq_L_lawOf_809 (kk : Nat → Bool) (x6 x8 x10 x16 z0 fm0_openSet fm0_state fm0_votes fm0_heard fm0_names fm0_name fm0_slot fm0_parts fm0_trouble fm0_troubled fm0_happened fm0_commitCount fm0_first fm0_waiting fm0_sent fm0_lostCount am7321 am7322 am7323 am7324 am7325 am7326 am7327 am7328 am7329 am73210 am73211 am73212 am73213 am73214 am73215 am73216 : Nat) : Bool := (zq_pX_begin (fun r_478 fm0_openSet_479 fm0_state_480 fm0_votes_481 fm0_heard_482 fm0_names_483 fm0_name_484 fm0_slot_485 fm0_parts_486 fm0_trouble_487 fm0_troubled_488 fm0_happened_489 fm0_commitCount_490 fm0_first_491 fm0_waiting_492 fm0_sent_493 fm0_lostCount_494 am8131_497 am8132_500 am8133_503 am8134_506 am8135_509 am8136_512 am8137_515 am8138_518 am8139_521 am81310_524 am81311_527 am81312_530 am81313_533 am81314_536 am81315_539 am81316_542 => (zq_pX_put (fun r_543 fm0_openSet_544 fm0_state_545 fm0_votes_546 fm0_heard_547 fm0_names_548 fm0_name_549 fm0_slot_550 fm0_parts_551 fm0_trouble_552 fm0_troubled_553 fm0_happened_554 fm0_commitCount_555 fm0_first_556 fm0_waiting_557 fm0_sent_558 fm0_lostCount_559 am8271_562 am8272_565 am8273_568 am8274_571 am8275_574 am8276_577 am8277_580 am8278_583 am8279_586 am82710_589 am82711_592 am82712_595 am82713_598 am82714_601 am82715_604 am82716_607 => (zq_pX_commit (fun r_608 fm0_openSet_609 fm0_state_610 fm0_votes_611 fm0_heard_612 fm0_names_613 fm0_name_614 fm0_slot_615 fm0_parts_616 fm0_trouble_617 fm0_troubled_618 fm0_happened_619 fm0_commitCount_620 fm0_first_621 fm0_waiting_622 fm0_sent_623 fm0_lostCount_624 am8391_627 am8392_630 am8393_633 am8394_636 am8395_639 am8396_642 am8397_645 am8398_648 am8399_651 am83910_654 am83911_657 am83912_660 am83913_663 am83914_666 am83915_669 am83916_672 => (zb_if (zb_eq z0 0) (kk 0) (zb_if (zb_eq r_478 0) (zb_if (zb_eq x16 0) (zq_L_lawOf_869 kk x6 x16 r_608 (zb_vsub x10 5) r_543 fm0_openSet_609 fm0_state_610 fm0_votes_611 fm0_heard_612 fm0_names_613 fm0_name_614 fm0_slot_615 fm0_parts_616 fm0_trouble_617 fm0_troubled_618 fm0_happened_619 fm0_commitCount_620 fm0_first_621 fm0_waiting_622 fm0_sent_623 fm0_lostCount_624 am8391_627 am8392_630 am8393_633 am8394_636 am8395_639 am8396_642 am8397_645 am8398_648 am8399_651 am83910_654 am83911_657 am83912_660 am83913_663 am83914_666 am83915_669 am83916_672) (zq_L_lawOf_869 kk x6 x16 r_608 (zb_kv 0) r_543 fm0_openSet_609 fm0_state_610 fm0_votes_611 fm0_heard_612 fm0_names_613 fm0_name_614 fm0_slot_615 fm0_parts_616 fm0_trouble_617 fm0_troubled_618 fm0_happened_619 fm0_commitCount_620 fm0_first_621 fm0_waiting_622 fm0_sent_623 fm0_lostCount_624 am8391_627 am8392_630 am8393_633 am8394_636 am8395_639 am8396_642 am8397_645 am8398_648 am8399_651 am83910_654 am83911_657 am83912_660 am83913_663 am83914_666 am83915_669 am83916_672)) (kk 0)))) fm0_openSet_544 fm0_state_545 fm0_votes_546 fm0_heard_547 fm0_names_548 fm0_name_549 fm0_slot_550 fm0_parts_551 fm0_trouble_552 fm0_troubled_553 fm0_happened_554 fm0_commitCount_555 fm0_first_556 fm0_waiting_557 fm0_sent_558 fm0_lostCount_559 am8271_562 am8272_565 am8273_568 am8274_571 am8275_574 am8276_577 am8277_580 am8278_583 am8279_586 am82710_589 am82711_592 am82712_595 am82713_598 am82714_601 am82715_604 am82716_607 0 7 x8)) fm0_openSet_479 fm0_state_480 fm0_votes_481 fm0_heard_482 fm0_names_483 fm0_name_484 fm0_slot_485 fm0_parts_486 fm0_trouble_487 fm0_troubled_488 fm0_happened_489 fm0_commitCount_490 fm0_first_491 fm0_waiting_492 fm0_sent_493 fm0_lostCount_494 am8131_497 am8132_500 am8133_503 am8134_506 am8135_509 am8136_512 am8137_515 am8138_518 am8139_521 am81310_524 am81311_527 am81312_530 am81313_533 am81314_536 am81315_539 am81316_542 0 (Nat.mul 3 x6) (zb_kv 77))) fm0_openSet fm0_state fm0_votes fm0_heard fm0_names fm0_name fm0_slot fm0_parts fm0_trouble fm0_troubled fm0_happened fm0_commitCount fm0_first fm0_waiting fm0_sent fm0_lostCount am7321 am7322 am7323 am7324 am7325 am7326 am7327 am7328 am7329 am73210 am73211 am73212 am73213 am73214 am73215 am73216)
theorem zr_L_lawOf_809 {c : Nat} (hc : c ≤ 1023) {post : Int32 → St0 → Prop} {kk : Nat → Bool} {mc ms kc ks : Nat} {x6 x8 x10 x16 z0 fm0_openSet fm0_state fm0_votes fm0_heard fm0_names fm0_name fm0_slot fm0_parts fm0_trouble fm0_troubled fm0_happened fm0_commitCount fm0_first fm0_waiting fm0_sent fm0_lostCount am7321 am7322 am7323 am7324 am7325 am7326 am7327 am7328 am7329 am73210 am73211 am73212 am73213 am73214 am73215 am73216 : Nat} {X_x6 : Int32} (e_x6 : X_x6 = nI x6) {X_x8 : Int32} (e_x8 : X_x8 = nI x8) {X_x10 : Int32} (e_x10 : X_x10 = zb_dv c x10) {X_x16 : Int32} (e_x16 : X_x16 = nI x16) {X_z0 : Int32} (e_z0 : X_z0 = nI z0) (h : zq_L_lawOf_809 kk x6 x8 x10 x16 z0 fm0_openSet fm0_state fm0_votes fm0_heard fm0_names fm0_name fm0_slot fm0_parts fm0_trouble fm0_troubled fm0_happened fm0_commitCount fm0_first fm0_waiting fm0_sent fm0_lostCount am7321 am7322 am7323 am7324 am7325 am7326 am7327 am7328 am7329 am73210 am73211 am73212 am73213 am73214 am73215 am73216 = true) (hk : ∀ {r_ : Nat} {R_ : Int32}, R_ = nI r_ → kk r_  = true → post R_ ()) : wL_lawOf_809 post mc ms X_x6 X_x8 X_x10 X_x16 X_z0 kc ks (nI fm0_openSet) (nI fm0_state) (nI fm0_votes) (nI fm0_heard) (nI fm0_names) (nI fm0_name) (nI fm0_slot) (nI fm0_parts) (nI fm0_trouble) (nI fm0_troubled) (nI fm0_happened) (nI fm0_commitCount) (nI fm0_first) (nI fm0_waiting) (nI fm0_sent) (nI fm0_lostCount) (zb_va c am7321) (zb_ka am7322) (zb_ka am7323) (zb_ka am7324) (zb_ka am7325) (zb_va c am7326) (zb_va c am7327) (zb_ka am7328) (zb_ka am7329) (zb_va c am73210) (zb_ka am73211) (zb_ka am73212) (zb_ka am73213) (zb_ka am73214) (zb_ka am73215) (zb_ka am73216) := by
  subst e_x6
  subst e_x8
  subst e_x10
  subst e_x16
  subst e_z0
  unfold zq_L_lawOf_809 at h
  unfold wL_lawOf_809
  refine zr_pX_begin hc h ?_
  intro r_478 R_ eR_ fm0_openSet_479 fm0_state_480 fm0_votes_481 fm0_heard_482 fm0_names_483 fm0_name_484 fm0_slot_485 fm0_parts_486 fm0_trouble_487 fm0_troubled_488 fm0_happened_489 fm0_commitCount_490 fm0_first_491 fm0_waiting_492 fm0_sent_493 fm0_lostCount_494 am8131_497 am8132_500 am8133_503 am8134_506 am8135_509 am8136_512 am8137_515 am8138_518 am8139_521 am81310_524 am81311_527 am81312_530 am81313_533 am81314_536 am81315_539 am81316_542 h
  subst eR_
  refine zr_pX_put hc (rfl : (0 : Int32) = nI 0) (zb_mulP (rfl : (3 : Int32) = nI 3) rfl) (zb_kvP (rfl : (77 : Int32) = nI 77)) h ?_
  intro r_543 R_ eR_ fm0_openSet_544 fm0_state_545 fm0_votes_546 fm0_heard_547 fm0_names_548 fm0_name_549 fm0_slot_550 fm0_parts_551 fm0_trouble_552 fm0_troubled_553 fm0_happened_554 fm0_commitCount_555 fm0_first_556 fm0_waiting_557 fm0_sent_558 fm0_lostCount_559 am8271_562 am8272_565 am8273_568 am8274_571 am8275_574 am8276_577 am8277_580 am8278_583 am8279_586 am82710_589 am82711_592 am82712_595 am82713_598 am82714_601 am82715_604 am82716_607 h
  subst eR_
  refine zr_pX_commit hc (rfl : (0 : Int32) = nI 0) (rfl : (7 : Int32) = nI 7) rfl h ?_
  intro r_608 R_ eR_ fm0_openSet_609 fm0_state_610 fm0_votes_611 fm0_heard_612 fm0_names_613 fm0_name_614 fm0_slot_615 fm0_parts_616 fm0_trouble_617 fm0_troubled_618 fm0_happened_619 fm0_commitCount_620 fm0_first_621 fm0_waiting_622 fm0_sent_623 fm0_lostCount_624 am8391_627 am8392_630 am8393_633 am8394_636 am8395_639 am8396_642 am8397_645 am8398_648 am8399_651 am83910_654 am83911_657 am83912_660 am83913_663 am83914_666 am83915_669 am83916_672 h
  subst eR_
  refine zb_if_ok (zb_eqP rfl (rfl : (0 : Int32) = nI 0)) h ?_ ?_
  · intro h
    exact hk (rfl : (0 : Int32) = nI 0) h
  · intro h
    refine zb_if_ok (zb_eqP rfl (rfl : (0 : Int32) = nI 0)) h ?_ ?_
    · intro h
      refine zb_if_ok (zb_eqP rfl (rfl : (0 : Int32) = nI 0)) h ?_ ?_
      · intro h
        exact zr_L_lawOf_869 hc rfl rfl rfl (zb_vsubP rfl (rfl : (5 : Int32) = nI 5)) rfl h hk
      · intro h
        exact zr_L_lawOf_869 hc rfl rfl rfl (zb_kvP (rfl : (0 : Int32) = nI 0)) rfl h hk
    · intro h
      exact hk (rfl : (0 : Int32) = nI 0) h
noncomputable def zq_L_lawOf_808 (kk : Nat → Bool) (x6 x8 x10 x16 fm0_openSet fm0_state fm0_votes fm0_heard fm0_names fm0_name fm0_slot fm0_parts fm0_trouble fm0_troubled fm0_happened fm0_commitCount fm0_first fm0_waiting fm0_sent fm0_lostCount am7321 am7322 am7323 am7324 am7325 am7326 am7327 am7328 am7329 am73210 am73211 am73212 am73213 am73214 am73215 am73216 : Nat) : Bool := (zq_L_lawOf_809 kk x6 x8 x10 x16 0 fm0_openSet fm0_state fm0_votes fm0_heard fm0_names fm0_name fm0_slot fm0_parts fm0_trouble fm0_troubled fm0_happened fm0_commitCount fm0_first fm0_waiting fm0_sent fm0_lostCount am7321 am7322 am7323 am7324 am7325 am7326 am7327 am7328 am7329 am73210 am73211 am73212 am73213 am73214 am73215 am73216)
theorem zr_L_lawOf_808 {c : Nat} (hc : c ≤ 1023) {post : Int32 → St0 → Prop} {kk : Nat → Bool} {mc ms kc ks : Nat} {x6 x8 x10 x16 fm0_openSet fm0_state fm0_votes fm0_heard fm0_names fm0_name fm0_slot fm0_parts fm0_trouble fm0_troubled fm0_happened fm0_commitCount fm0_first fm0_waiting fm0_sent fm0_lostCount am7321 am7322 am7323 am7324 am7325 am7326 am7327 am7328 am7329 am73210 am73211 am73212 am73213 am73214 am73215 am73216 : Nat} {X_x6 : Int32} (e_x6 : X_x6 = nI x6) {X_x8 : Int32} (e_x8 : X_x8 = nI x8) {X_x10 : Int32} (e_x10 : X_x10 = zb_dv c x10) {X_x16 : Int32} (e_x16 : X_x16 = nI x16) (h : zq_L_lawOf_808 kk x6 x8 x10 x16 fm0_openSet fm0_state fm0_votes fm0_heard fm0_names fm0_name fm0_slot fm0_parts fm0_trouble fm0_troubled fm0_happened fm0_commitCount fm0_first fm0_waiting fm0_sent fm0_lostCount am7321 am7322 am7323 am7324 am7325 am7326 am7327 am7328 am7329 am73210 am73211 am73212 am73213 am73214 am73215 am73216 = true) (hk : ∀ {r_ : Nat} {R_ : Int32}, R_ = nI r_ → kk r_  = true → post R_ ()) : wL_lawOf_808 post mc ms X_x6 X_x8 X_x10 X_x16 kc ks (nI fm0_openSet) (nI fm0_state) (nI fm0_votes) (nI fm0_heard) (nI fm0_names) (nI fm0_name) (nI fm0_slot) (nI fm0_parts) (nI fm0_trouble) (nI fm0_troubled) (nI fm0_happened) (nI fm0_commitCount) (nI fm0_first) (nI fm0_waiting) (nI fm0_sent) (nI fm0_lostCount) (zb_va c am7321) (zb_ka am7322) (zb_ka am7323) (zb_ka am7324) (zb_ka am7325) (zb_va c am7326) (zb_va c am7327) (zb_ka am7328) (zb_ka am7329) (zb_va c am73210) (zb_ka am73211) (zb_ka am73212) (zb_ka am73213) (zb_ka am73214) (zb_ka am73215) (zb_ka am73216) := by
  subst e_x6
  subst e_x8
  subst e_x10
  subst e_x16
  unfold zq_L_lawOf_808 at h
  unfold wL_lawOf_808
  exact zr_L_lawOf_809 hc rfl rfl rfl rfl (rfl : (0 : Int32) = nI 0) h hk
noncomputable def zq_L_lawOf_801 (kk : Nat → Bool) (x6 x8 x10 x16 z0 z1 fm0_openSet fm0_state fm0_votes fm0_heard fm0_names fm0_name fm0_slot fm0_parts fm0_trouble fm0_troubled fm0_happened fm0_commitCount fm0_first fm0_waiting fm0_sent fm0_lostCount am7321 am7322 am7323 am7324 am7325 am7326 am7327 am7328 am7329 am73210 am73211 am73212 am73213 am73214 am73215 am73216 : Nat) : Bool := (zb_if3 (zb_eq3 z1 z0) (zq_L_lawOf_809 kk x6 x8 x10 x16 1 fm0_openSet fm0_state fm0_votes fm0_heard fm0_names fm0_name fm0_slot fm0_parts fm0_trouble fm0_troubled fm0_happened fm0_commitCount fm0_first fm0_waiting fm0_sent fm0_lostCount am7321 am7322 am7323 am7324 am7325 am7326 am7327 am7328 am7329 am73210 am73211 am73212 am73213 am73214 am73215 am73216) (zq_L_lawOf_808 kk x6 x8 x10 x16 fm0_openSet fm0_state fm0_votes fm0_heard fm0_names fm0_name fm0_slot fm0_parts fm0_trouble fm0_troubled fm0_happened fm0_commitCount fm0_first fm0_waiting fm0_sent fm0_lostCount am7321 am7322 am7323 am7324 am7325 am7326 am7327 am7328 am7329 am73210 am73211 am73212 am73213 am73214 am73215 am73216))
theorem zr_L_lawOf_801 {c : Nat} (hc : c ≤ 1023) {post : Int32 → St0 → Prop} {kk : Nat → Bool} {mc ms kc ks : Nat} {x6 x8 x10 x16 z0 z1 fm0_openSet fm0_state fm0_votes fm0_heard fm0_names fm0_name fm0_slot fm0_parts fm0_trouble fm0_troubled fm0_happened fm0_commitCount fm0_first fm0_waiting fm0_sent fm0_lostCount am7321 am7322 am7323 am7324 am7325 am7326 am7327 am7328 am7329 am73210 am73211 am73212 am73213 am73214 am73215 am73216 : Nat} {X_x6 : Int32} (e_x6 : X_x6 = nI x6) {X_x8 : Int32} (e_x8 : X_x8 = nI x8) {X_x10 : Int32} (e_x10 : X_x10 = zb_dv c x10) {X_x16 : Int32} (e_x16 : X_x16 = nI x16) {X_z0 : Int32} (e_z0 : X_z0 = zb_dv c z0) {X_z1 : Int32} (e_z1 : X_z1 = zb_dv c z1) (h : zq_L_lawOf_801 kk x6 x8 x10 x16 z0 z1 fm0_openSet fm0_state fm0_votes fm0_heard fm0_names fm0_name fm0_slot fm0_parts fm0_trouble fm0_troubled fm0_happened fm0_commitCount fm0_first fm0_waiting fm0_sent fm0_lostCount am7321 am7322 am7323 am7324 am7325 am7326 am7327 am7328 am7329 am73210 am73211 am73212 am73213 am73214 am73215 am73216 = true) (hk : ∀ {r_ : Nat} {R_ : Int32}, R_ = nI r_ → kk r_  = true → post R_ ()) : wL_lawOf_801 post mc ms X_x6 X_x8 X_x10 X_x16 X_z0 X_z1 kc ks (nI fm0_openSet) (nI fm0_state) (nI fm0_votes) (nI fm0_heard) (nI fm0_names) (nI fm0_name) (nI fm0_slot) (nI fm0_parts) (nI fm0_trouble) (nI fm0_troubled) (nI fm0_happened) (nI fm0_commitCount) (nI fm0_first) (nI fm0_waiting) (nI fm0_sent) (nI fm0_lostCount) (zb_va c am7321) (zb_ka am7322) (zb_ka am7323) (zb_ka am7324) (zb_ka am7325) (zb_va c am7326) (zb_va c am7327) (zb_ka am7328) (zb_ka am7329) (zb_va c am73210) (zb_ka am73211) (zb_ka am73212) (zb_ka am73213) (zb_ka am73214) (zb_ka am73215) (zb_ka am73216) := by
  subst e_x6
  subst e_x8
  subst e_x10
  subst e_x16
  subst e_z0
  subst e_z1
  unfold zq_L_lawOf_801 at h
  unfold wL_lawOf_801
  refine zb_if3_ok (zb_eq3P hc rfl rfl) h ?_ ?_
  · intro h
    exact zr_L_lawOf_809 hc rfl rfl rfl rfl (rfl : (1 : Int32) = nI 1) h hk
  · intro h
    exact zr_L_lawOf_808 hc rfl rfl rfl rfl h hk
noncomputable def zq_L_lawOf_770 (kk : Nat → Bool) (x6 x8 x10 x16 z0 z1 fm0_openSet fm0_state fm0_votes fm0_heard fm0_names fm0_name fm0_slot fm0_parts fm0_trouble fm0_troubled fm0_happened fm0_commitCount fm0_first fm0_waiting fm0_sent fm0_lostCount am7321 am7322 am7323 am7324 am7325 am7326 am7327 am7328 am7329 am73210 am73211 am73212 am73213 am73214 am73215 am73216 : Nat) : Bool := (zb_if (zb_eq z1 z0) (zq_pX_open (fun r_887 => (zb_if (zb_eq r_887 0) (zq_pX_total (fun r_889 => (zb_if (zb_eq x16 0) (zq_L_lawOf_801 kk x6 x8 x10 x16 (zb_vadd (zb_vmul 3 x10) (zb_kv 3)) r_889 fm0_openSet fm0_state fm0_votes fm0_heard fm0_names fm0_name fm0_slot fm0_parts fm0_trouble fm0_troubled fm0_happened fm0_commitCount fm0_first fm0_waiting fm0_sent fm0_lostCount am7321 am7322 am7323 am7324 am7325 am7326 am7327 am7328 am7329 am73210 am73211 am73212 am73213 am73214 am73215 am73216) (zq_L_lawOf_801 kk x6 x8 x10 x16 (zb_kv 0) r_889 fm0_openSet fm0_state fm0_votes fm0_heard fm0_names fm0_name fm0_slot fm0_parts fm0_trouble fm0_troubled fm0_happened fm0_commitCount fm0_first fm0_waiting fm0_sent fm0_lostCount am7321 am7322 am7323 am7324 am7325 am7326 am7327 am7328 am7329 am73210 am73211 am73212 am73213 am73214 am73215 am73216))) fm0_openSet fm0_state fm0_votes fm0_heard fm0_names fm0_name fm0_slot fm0_parts fm0_trouble fm0_troubled fm0_happened fm0_commitCount fm0_first fm0_waiting fm0_sent fm0_lostCount am7321 am7322 am7323 am7324 am7325 am7326 am7327 am7328 am7329 am73210 am73211 am73212 am73213 am73214 am73215 am73216) (zq_L_lawOf_808 kk x6 x8 x10 x16 fm0_openSet fm0_state fm0_votes fm0_heard fm0_names fm0_name fm0_slot fm0_parts fm0_trouble fm0_troubled fm0_happened fm0_commitCount fm0_first fm0_waiting fm0_sent fm0_lostCount am7321 am7322 am7323 am7324 am7325 am7326 am7327 am7328 am7329 am73210 am73211 am73212 am73213 am73214 am73215 am73216))) fm0_openSet fm0_state fm0_votes fm0_heard fm0_names fm0_name fm0_slot fm0_parts fm0_trouble fm0_troubled fm0_happened fm0_commitCount fm0_first fm0_waiting fm0_sent fm0_lostCount am7321 am7322 am7323 am7324 am7325 am7326 am7327 am7328 am7329 am73210 am73211 am73212 am73213 am73214 am73215 am73216) (zq_L_lawOf_808 kk x6 x8 x10 x16 fm0_openSet fm0_state fm0_votes fm0_heard fm0_names fm0_name fm0_slot fm0_parts fm0_trouble fm0_troubled fm0_happened fm0_commitCount fm0_first fm0_waiting fm0_sent fm0_lostCount am7321 am7322 am7323 am7324 am7325 am7326 am7327 am7328 am7329 am73210 am73211 am73212 am73213 am73214 am73215 am73216))
theorem zr_L_lawOf_770 {c : Nat} (hc : c ≤ 1023) {post : Int32 → St0 → Prop} {kk : Nat → Bool} {mc ms kc ks : Nat} {x6 x8 x10 x16 z0 z1 fm0_openSet fm0_state fm0_votes fm0_heard fm0_names fm0_name fm0_slot fm0_parts fm0_trouble fm0_troubled fm0_happened fm0_commitCount fm0_first fm0_waiting fm0_sent fm0_lostCount am7321 am7322 am7323 am7324 am7325 am7326 am7327 am7328 am7329 am73210 am73211 am73212 am73213 am73214 am73215 am73216 : Nat} {X_x6 : Int32} (e_x6 : X_x6 = nI x6) {X_x8 : Int32} (e_x8 : X_x8 = nI x8) {X_x10 : Int32} (e_x10 : X_x10 = zb_dv c x10) {X_x16 : Int32} (e_x16 : X_x16 = nI x16) {X_z0 : Int32} (e_z0 : X_z0 = nI z0) {X_z1 : Int32} (e_z1 : X_z1 = nI z1) (h : zq_L_lawOf_770 kk x6 x8 x10 x16 z0 z1 fm0_openSet fm0_state fm0_votes fm0_heard fm0_names fm0_name fm0_slot fm0_parts fm0_trouble fm0_troubled fm0_happened fm0_commitCount fm0_first fm0_waiting fm0_sent fm0_lostCount am7321 am7322 am7323 am7324 am7325 am7326 am7327 am7328 am7329 am73210 am73211 am73212 am73213 am73214 am73215 am73216 = true) (hk : ∀ {r_ : Nat} {R_ : Int32}, R_ = nI r_ → kk r_  = true → post R_ ()) : wL_lawOf_770 post mc ms X_x6 X_x8 X_x10 X_x16 X_z0 X_z1 kc ks (nI fm0_openSet) (nI fm0_state) (nI fm0_votes) (nI fm0_heard) (nI fm0_names) (nI fm0_name) (nI fm0_slot) (nI fm0_parts) (nI fm0_trouble) (nI fm0_troubled) (nI fm0_happened) (nI fm0_commitCount) (nI fm0_first) (nI fm0_waiting) (nI fm0_sent) (nI fm0_lostCount) (zb_va c am7321) (zb_ka am7322) (zb_ka am7323) (zb_ka am7324) (zb_ka am7325) (zb_va c am7326) (zb_va c am7327) (zb_ka am7328) (zb_ka am7329) (zb_va c am73210) (zb_ka am73211) (zb_ka am73212) (zb_ka am73213) (zb_ka am73214) (zb_ka am73215) (zb_ka am73216) := by
  subst e_x6
  subst e_x8
  subst e_x10
  subst e_x16
  subst e_z0
  subst e_z1
  unfold zq_L_lawOf_770 at h
  unfold wL_lawOf_770
  refine zb_if_ok (zb_eqP rfl rfl) h ?_ ?_
  · intro h
    refine zr_pX_open hc h ?_
    intro r_887 R_ eR_ h
    subst eR_
    refine zb_if_ok (zb_eqP rfl (rfl : (0 : Int32) = nI 0)) h ?_ ?_
    · intro h
      refine zr_pX_total hc h ?_
      intro r_889 R_ eR_ h
      subst eR_
      refine zb_if_ok (zb_eqP rfl (rfl : (0 : Int32) = nI 0)) h ?_ ?_
      · intro h
        exact zr_L_lawOf_801 hc rfl rfl rfl rfl (zb_vaddP (zb_vmulP (rfl : (3 : Int32) = nI 3) rfl) (zb_kvP (rfl : (3 : Int32) = nI 3))) rfl h hk
      · intro h
        exact zr_L_lawOf_801 hc rfl rfl rfl rfl (zb_kvP (rfl : (0 : Int32) = nI 0)) rfl h hk
    · intro h
      exact zr_L_lawOf_808 hc rfl rfl rfl rfl h hk
  · intro h
    exact zr_L_lawOf_808 hc rfl rfl rfl rfl h hk
noncomputable def zq_L_lawOf_755 (kk : Nat → Bool) (x6 x8 x10 x16 x17 x20 z0 z1 fm0_openSet fm0_state fm0_votes fm0_heard fm0_names fm0_name fm0_slot fm0_parts fm0_trouble fm0_troubled fm0_happened fm0_commitCount fm0_first fm0_waiting fm0_sent fm0_lostCount am7321 am7322 am7323 am7324 am7325 am7326 am7327 am7328 am7329 am73210 am73211 am73212 am73213 am73214 am73215 am73216 : Nat) : Bool := (zb_if (zb_eq z1 z0) (zb_if (zb_eq x17 0) (zq_L_lawOf_770 kk x6 x8 x10 x16 2 x20 fm0_openSet fm0_state fm0_votes fm0_heard fm0_names fm0_name fm0_slot fm0_parts fm0_trouble fm0_troubled fm0_happened fm0_commitCount fm0_first fm0_waiting fm0_sent fm0_lostCount am7321 am7322 am7323 am7324 am7325 am7326 am7327 am7328 am7329 am73210 am73211 am73212 am73213 am73214 am73215 am73216) (zq_L_lawOf_770 kk x6 x8 x10 x16 0 x20 fm0_openSet fm0_state fm0_votes fm0_heard fm0_names fm0_name fm0_slot fm0_parts fm0_trouble fm0_troubled fm0_happened fm0_commitCount fm0_first fm0_waiting fm0_sent fm0_lostCount am7321 am7322 am7323 am7324 am7325 am7326 am7327 am7328 am7329 am73210 am73211 am73212 am73213 am73214 am73215 am73216)) (zq_L_lawOf_808 kk x6 x8 x10 x16 fm0_openSet fm0_state fm0_votes fm0_heard fm0_names fm0_name fm0_slot fm0_parts fm0_trouble fm0_troubled fm0_happened fm0_commitCount fm0_first fm0_waiting fm0_sent fm0_lostCount am7321 am7322 am7323 am7324 am7325 am7326 am7327 am7328 am7329 am73210 am73211 am73212 am73213 am73214 am73215 am73216))
theorem zr_L_lawOf_755 {c : Nat} (hc : c ≤ 1023) {post : Int32 → St0 → Prop} {kk : Nat → Bool} {mc ms kc ks : Nat} {x6 x8 x10 x16 x17 x20 z0 z1 fm0_openSet fm0_state fm0_votes fm0_heard fm0_names fm0_name fm0_slot fm0_parts fm0_trouble fm0_troubled fm0_happened fm0_commitCount fm0_first fm0_waiting fm0_sent fm0_lostCount am7321 am7322 am7323 am7324 am7325 am7326 am7327 am7328 am7329 am73210 am73211 am73212 am73213 am73214 am73215 am73216 : Nat} {X_x6 : Int32} (e_x6 : X_x6 = nI x6) {X_x8 : Int32} (e_x8 : X_x8 = nI x8) {X_x10 : Int32} (e_x10 : X_x10 = zb_dv c x10) {X_x16 : Int32} (e_x16 : X_x16 = nI x16) {X_x17 : Int32} (e_x17 : X_x17 = nI x17) {X_x20 : Int32} (e_x20 : X_x20 = nI x20) {X_z0 : Int32} (e_z0 : X_z0 = nI z0) {X_z1 : Int32} (e_z1 : X_z1 = nI z1) (h : zq_L_lawOf_755 kk x6 x8 x10 x16 x17 x20 z0 z1 fm0_openSet fm0_state fm0_votes fm0_heard fm0_names fm0_name fm0_slot fm0_parts fm0_trouble fm0_troubled fm0_happened fm0_commitCount fm0_first fm0_waiting fm0_sent fm0_lostCount am7321 am7322 am7323 am7324 am7325 am7326 am7327 am7328 am7329 am73210 am73211 am73212 am73213 am73214 am73215 am73216 = true) (hk : ∀ {r_ : Nat} {R_ : Int32}, R_ = nI r_ → kk r_  = true → post R_ ()) : wL_lawOf_755 post mc ms X_x6 X_x8 X_x10 X_x16 X_x17 X_x20 X_z0 X_z1 kc ks (nI fm0_openSet) (nI fm0_state) (nI fm0_votes) (nI fm0_heard) (nI fm0_names) (nI fm0_name) (nI fm0_slot) (nI fm0_parts) (nI fm0_trouble) (nI fm0_troubled) (nI fm0_happened) (nI fm0_commitCount) (nI fm0_first) (nI fm0_waiting) (nI fm0_sent) (nI fm0_lostCount) (zb_va c am7321) (zb_ka am7322) (zb_ka am7323) (zb_ka am7324) (zb_ka am7325) (zb_va c am7326) (zb_va c am7327) (zb_ka am7328) (zb_ka am7329) (zb_va c am73210) (zb_ka am73211) (zb_ka am73212) (zb_ka am73213) (zb_ka am73214) (zb_ka am73215) (zb_ka am73216) := by
  subst e_x6
  subst e_x8
  subst e_x10
  subst e_x16
  subst e_x17
  subst e_x20
  subst e_z0
  subst e_z1
  unfold zq_L_lawOf_755 at h
  unfold wL_lawOf_755
  refine zb_if_ok (zb_eqP rfl rfl) h ?_ ?_
  · intro h
    refine zb_if_ok (zb_eqP rfl (rfl : (0 : Int32) = nI 0)) h ?_ ?_
    · intro h
      exact zr_L_lawOf_770 hc rfl rfl rfl rfl (rfl : (2 : Int32) = nI 2) rfl h hk
    · intro h
      exact zr_L_lawOf_770 hc rfl rfl rfl rfl (rfl : (0 : Int32) = nI 0) rfl h hk
  · intro h
    exact zr_L_lawOf_808 hc rfl rfl rfl rfl h hk
noncomputable def zq_L_lawOf_709 (kk : Nat → Bool) (x6 x8 x10 x16 x17 z0 fm0_openSet fm0_state fm0_votes fm0_heard fm0_names fm0_name fm0_slot fm0_parts fm0_trouble fm0_troubled fm0_happened fm0_commitCount fm0_first fm0_waiting fm0_sent fm0_lostCount am4751 am4752 am4753 am4754 am4755 am4756 am4757 am4758 am4759 am47510 am47511 am47512 am47513 am47514 am47515 am47516 : Nat) : Bool := (zb_let (Nat.land (Nat.add x6 1) 3) (fun x18_346 => (zq_pX_abort (fun r_347 fm0_openSet_348 fm0_state_349 fm0_votes_350 fm0_heard_351 fm0_names_352 fm0_name_353 fm0_slot_354 fm0_parts_355 fm0_trouble_356 fm0_troubled_357 fm0_happened_358 fm0_commitCount_359 fm0_first_360 fm0_waiting_361 fm0_sent_362 fm0_lostCount_363 am7231_366 am7232_369 am7233_372 am7234_375 am7235_378 am7236_381 am7237_384 am7238_387 am7239_390 am72310_393 am72311_396 am72312_399 am72313_402 am72314_405 am72315_408 am72316_411 => (zq_pX_crash (fun r_412 fm0_openSet_413 fm0_state_414 fm0_votes_415 fm0_heard_416 fm0_names_417 fm0_name_418 fm0_slot_419 fm0_parts_420 fm0_trouble_421 fm0_troubled_422 fm0_happened_423 fm0_commitCount_424 fm0_first_425 fm0_waiting_426 fm0_sent_427 fm0_lostCount_428 am7321_431 am7322_434 am7323_437 am7324_440 am7325_443 am7326_446 am7327_449 am7328_452 am7329_455 am73210_458 am73211_461 am73212_464 am73213_467 am73214_470 am73215_473 am73216_476 => (zb_if (zb_eq z0 0) (zq_L_lawOf_808 kk x6 x8 x10 x16 fm0_openSet_413 fm0_state_414 fm0_votes_415 fm0_heard_416 fm0_names_417 fm0_name_418 fm0_slot_419 fm0_parts_420 fm0_trouble_421 fm0_troubled_422 fm0_happened_423 fm0_commitCount_424 fm0_first_425 fm0_waiting_426 fm0_sent_427 fm0_lostCount_428 am7321_431 am7322_434 am7323_437 am7324_440 am7325_443 am7326_446 am7327_449 am7328_452 am7329_455 am73210_458 am73211_461 am73212_464 am73213_467 am73214_470 am73215_473 am73216_476) (zb_if (zb_eq x17 0) (zq_L_lawOf_755 kk x6 x8 x10 x16 x17 r_412 3 r_347 fm0_openSet_413 fm0_state_414 fm0_votes_415 fm0_heard_416 fm0_names_417 fm0_name_418 fm0_slot_419 fm0_parts_420 fm0_trouble_421 fm0_troubled_422 fm0_happened_423 fm0_commitCount_424 fm0_first_425 fm0_waiting_426 fm0_sent_427 fm0_lostCount_428 am7321_431 am7322_434 am7323_437 am7324_440 am7325_443 am7326_446 am7327_449 am7328_452 am7329_455 am73210_458 am73211_461 am73212_464 am73213_467 am73214_470 am73215_473 am73216_476) (zq_L_lawOf_755 kk x6 x8 x10 x16 x17 r_412 4294867296 r_347 fm0_openSet_413 fm0_state_414 fm0_votes_415 fm0_heard_416 fm0_names_417 fm0_name_418 fm0_slot_419 fm0_parts_420 fm0_trouble_421 fm0_troubled_422 fm0_happened_423 fm0_commitCount_424 fm0_first_425 fm0_waiting_426 fm0_sent_427 fm0_lostCount_428 am7321_431 am7322_434 am7323_437 am7324_440 am7325_443 am7326_446 am7327_449 am7328_452 am7329_455 am73210_458 am73211_461 am73212_464 am73213_467 am73214_470 am73215_473 am73216_476)))) fm0_openSet_348 fm0_state_349 fm0_votes_350 fm0_heard_351 fm0_names_352 fm0_name_353 fm0_slot_354 fm0_parts_355 fm0_trouble_356 fm0_troubled_357 fm0_happened_358 fm0_commitCount_359 fm0_first_360 fm0_waiting_361 fm0_sent_362 fm0_lostCount_363 am7231_366 am7232_369 am7233_372 am7234_375 am7235_378 am7236_381 am7237_384 am7238_387 am7239_390 am72310_393 am72311_396 am72312_399 am72313_402 am72314_405 am72315_408 am72316_411 x8)) fm0_openSet fm0_state fm0_votes fm0_heard fm0_names fm0_name fm0_slot fm0_parts fm0_trouble fm0_troubled fm0_happened fm0_commitCount fm0_first fm0_waiting fm0_sent fm0_lostCount am4751 am4752 am4753 am4754 am4755 am4756 am4757 am4758 am4759 am47510 am47511 am47512 am47513 am47514 am47515 am47516 x18_346)))
theorem zr_L_lawOf_709 {c : Nat} (hc : c ≤ 1023) {post : Int32 → St0 → Prop} {kk : Nat → Bool} {mc ms kc ks : Nat} {x6 x8 x10 x16 x17 z0 fm0_openSet fm0_state fm0_votes fm0_heard fm0_names fm0_name fm0_slot fm0_parts fm0_trouble fm0_troubled fm0_happened fm0_commitCount fm0_first fm0_waiting fm0_sent fm0_lostCount am4751 am4752 am4753 am4754 am4755 am4756 am4757 am4758 am4759 am47510 am47511 am47512 am47513 am47514 am47515 am47516 : Nat} {X_x6 : Int32} (e_x6 : X_x6 = nI x6) {X_x8 : Int32} (e_x8 : X_x8 = nI x8) {X_x10 : Int32} (e_x10 : X_x10 = zb_dv c x10) {X_x16 : Int32} (e_x16 : X_x16 = nI x16) {X_x17 : Int32} (e_x17 : X_x17 = nI x17) {X_z0 : Int32} (e_z0 : X_z0 = nI z0) (h : zq_L_lawOf_709 kk x6 x8 x10 x16 x17 z0 fm0_openSet fm0_state fm0_votes fm0_heard fm0_names fm0_name fm0_slot fm0_parts fm0_trouble fm0_troubled fm0_happened fm0_commitCount fm0_first fm0_waiting fm0_sent fm0_lostCount am4751 am4752 am4753 am4754 am4755 am4756 am4757 am4758 am4759 am47510 am47511 am47512 am47513 am47514 am47515 am47516 = true) (hk : ∀ {r_ : Nat} {R_ : Int32}, R_ = nI r_ → kk r_  = true → post R_ ()) : wL_lawOf_709 post mc ms X_x6 X_x8 X_x10 X_x16 X_x17 X_z0 kc ks (nI fm0_openSet) (nI fm0_state) (nI fm0_votes) (nI fm0_heard) (nI fm0_names) (nI fm0_name) (nI fm0_slot) (nI fm0_parts) (nI fm0_trouble) (nI fm0_troubled) (nI fm0_happened) (nI fm0_commitCount) (nI fm0_first) (nI fm0_waiting) (nI fm0_sent) (nI fm0_lostCount) (zb_va c am4751) (zb_ka am4752) (zb_ka am4753) (zb_ka am4754) (zb_ka am4755) (zb_va c am4756) (zb_va c am4757) (zb_ka am4758) (zb_ka am4759) (zb_va c am47510) (zb_ka am47511) (zb_ka am47512) (zb_ka am47513) (zb_ka am47514) (zb_ka am47515) (zb_ka am47516) := by
  subst e_x6
  subst e_x8
  subst e_x10
  subst e_x16
  subst e_x17
  subst e_z0
  unfold zq_L_lawOf_709 at h
  unfold wL_lawOf_709
  refine zb_let_k h (zb_andP (zb_addP rfl (rfl : (1 : Int32) = nI 1)) (rfl : (3 : Int32) = nI 3)) ?_
  intro h
  refine zr_pX_abort hc rfl h ?_
  intro r_347 R_ eR_ fm0_openSet_348 fm0_state_349 fm0_votes_350 fm0_heard_351 fm0_names_352 fm0_name_353 fm0_slot_354 fm0_parts_355 fm0_trouble_356 fm0_troubled_357 fm0_happened_358 fm0_commitCount_359 fm0_first_360 fm0_waiting_361 fm0_sent_362 fm0_lostCount_363 am7231_366 am7232_369 am7233_372 am7234_375 am7235_378 am7236_381 am7237_384 am7238_387 am7239_390 am72310_393 am72311_396 am72312_399 am72313_402 am72314_405 am72315_408 am72316_411 h
  subst eR_
  refine zr_pX_crash hc rfl h ?_
  intro r_412 R_ eR_ fm0_openSet_413 fm0_state_414 fm0_votes_415 fm0_heard_416 fm0_names_417 fm0_name_418 fm0_slot_419 fm0_parts_420 fm0_trouble_421 fm0_troubled_422 fm0_happened_423 fm0_commitCount_424 fm0_first_425 fm0_waiting_426 fm0_sent_427 fm0_lostCount_428 am7321_431 am7322_434 am7323_437 am7324_440 am7325_443 am7326_446 am7327_449 am7328_452 am7329_455 am73210_458 am73211_461 am73212_464 am73213_467 am73214_470 am73215_473 am73216_476 h
  subst eR_
  refine zb_if_ok (zb_eqP rfl (rfl : (0 : Int32) = nI 0)) h ?_ ?_
  · intro h
    exact zr_L_lawOf_808 hc rfl rfl rfl rfl h hk
  · intro h
    refine zb_if_ok (zb_eqP rfl (rfl : (0 : Int32) = nI 0)) h ?_ ?_
    · intro h
      exact zr_L_lawOf_755 hc rfl rfl rfl rfl rfl rfl (rfl : (3 : Int32) = nI 3) rfl h hk
    · intro h
      exact zr_L_lawOf_755 hc rfl rfl rfl rfl rfl rfl zb_m100000 rfl h hk
noncomputable def zq_L_lawOf_708 (kk : Nat → Bool) (x6 x8 x10 x16 x17 fm0_openSet fm0_state fm0_votes fm0_heard fm0_names fm0_name fm0_slot fm0_parts fm0_trouble fm0_troubled fm0_happened fm0_commitCount fm0_first fm0_waiting fm0_sent fm0_lostCount am4751 am4752 am4753 am4754 am4755 am4756 am4757 am4758 am4759 am47510 am47511 am47512 am47513 am47514 am47515 am47516 : Nat) : Bool := (zq_L_lawOf_709 kk x6 x8 x10 x16 x17 0 fm0_openSet fm0_state fm0_votes fm0_heard fm0_names fm0_name fm0_slot fm0_parts fm0_trouble fm0_troubled fm0_happened fm0_commitCount fm0_first fm0_waiting fm0_sent fm0_lostCount am4751 am4752 am4753 am4754 am4755 am4756 am4757 am4758 am4759 am47510 am47511 am47512 am47513 am47514 am47515 am47516)
theorem zr_L_lawOf_708 {c : Nat} (hc : c ≤ 1023) {post : Int32 → St0 → Prop} {kk : Nat → Bool} {mc ms kc ks : Nat} {x6 x8 x10 x16 x17 fm0_openSet fm0_state fm0_votes fm0_heard fm0_names fm0_name fm0_slot fm0_parts fm0_trouble fm0_troubled fm0_happened fm0_commitCount fm0_first fm0_waiting fm0_sent fm0_lostCount am4751 am4752 am4753 am4754 am4755 am4756 am4757 am4758 am4759 am47510 am47511 am47512 am47513 am47514 am47515 am47516 : Nat} {X_x6 : Int32} (e_x6 : X_x6 = nI x6) {X_x8 : Int32} (e_x8 : X_x8 = nI x8) {X_x10 : Int32} (e_x10 : X_x10 = zb_dv c x10) {X_x16 : Int32} (e_x16 : X_x16 = nI x16) {X_x17 : Int32} (e_x17 : X_x17 = nI x17) (h : zq_L_lawOf_708 kk x6 x8 x10 x16 x17 fm0_openSet fm0_state fm0_votes fm0_heard fm0_names fm0_name fm0_slot fm0_parts fm0_trouble fm0_troubled fm0_happened fm0_commitCount fm0_first fm0_waiting fm0_sent fm0_lostCount am4751 am4752 am4753 am4754 am4755 am4756 am4757 am4758 am4759 am47510 am47511 am47512 am47513 am47514 am47515 am47516 = true) (hk : ∀ {r_ : Nat} {R_ : Int32}, R_ = nI r_ → kk r_  = true → post R_ ()) : wL_lawOf_708 post mc ms X_x6 X_x8 X_x10 X_x16 X_x17 kc ks (nI fm0_openSet) (nI fm0_state) (nI fm0_votes) (nI fm0_heard) (nI fm0_names) (nI fm0_name) (nI fm0_slot) (nI fm0_parts) (nI fm0_trouble) (nI fm0_troubled) (nI fm0_happened) (nI fm0_commitCount) (nI fm0_first) (nI fm0_waiting) (nI fm0_sent) (nI fm0_lostCount) (zb_va c am4751) (zb_ka am4752) (zb_ka am4753) (zb_ka am4754) (zb_ka am4755) (zb_va c am4756) (zb_va c am4757) (zb_ka am4758) (zb_ka am4759) (zb_va c am47510) (zb_ka am47511) (zb_ka am47512) (zb_ka am47513) (zb_ka am47514) (zb_ka am47515) (zb_ka am47516) := by
  subst e_x6
  subst e_x8
  subst e_x10
  subst e_x16
  subst e_x17
  unfold zq_L_lawOf_708 at h
  unfold wL_lawOf_708
  exact zr_L_lawOf_709 hc rfl rfl rfl rfl rfl (rfl : (0 : Int32) = nI 0) h hk
noncomputable def zq_L_lawOf_677 (kk : Nat → Bool) (x6 x8 x10 x16 x17 z0 z1 fm0_openSet fm0_state fm0_votes fm0_heard fm0_names fm0_name fm0_slot fm0_parts fm0_trouble fm0_troubled fm0_happened fm0_commitCount fm0_first fm0_waiting fm0_sent fm0_lostCount am4751 am4752 am4753 am4754 am4755 am4756 am4757 am4758 am4759 am47510 am47511 am47512 am47513 am47514 am47515 am47516 : Nat) : Bool := (zb_if3 (zb_eq3 z1 z0) (zq_pX_holder (fun r_912 => (zb_if (zb_eq r_912 4294767296) (zq_pX_keys (fun r_914 => (zb_if (zb_eq r_914 0) (zq_L_lawOf_709 kk x6 x8 x10 x16 x17 1 fm0_openSet fm0_state fm0_votes fm0_heard fm0_names fm0_name fm0_slot fm0_parts fm0_trouble fm0_troubled fm0_happened fm0_commitCount fm0_first fm0_waiting fm0_sent fm0_lostCount am4751 am4752 am4753 am4754 am4755 am4756 am4757 am4758 am4759 am47510 am47511 am47512 am47513 am47514 am47515 am47516) (zq_L_lawOf_708 kk x6 x8 x10 x16 x17 fm0_openSet fm0_state fm0_votes fm0_heard fm0_names fm0_name fm0_slot fm0_parts fm0_trouble fm0_troubled fm0_happened fm0_commitCount fm0_first fm0_waiting fm0_sent fm0_lostCount am4751 am4752 am4753 am4754 am4755 am4756 am4757 am4758 am4759 am47510 am47511 am47512 am47513 am47514 am47515 am47516))) fm0_openSet fm0_state fm0_votes fm0_heard fm0_names fm0_name fm0_slot fm0_parts fm0_trouble fm0_troubled fm0_happened fm0_commitCount fm0_first fm0_waiting fm0_sent fm0_lostCount am4751 am4752 am4753 am4754 am4755 am4756 am4757 am4758 am4759 am47510 am47511 am47512 am47513 am47514 am47515 am47516 x6) (zq_L_lawOf_708 kk x6 x8 x10 x16 x17 fm0_openSet fm0_state fm0_votes fm0_heard fm0_names fm0_name fm0_slot fm0_parts fm0_trouble fm0_troubled fm0_happened fm0_commitCount fm0_first fm0_waiting fm0_sent fm0_lostCount am4751 am4752 am4753 am4754 am4755 am4756 am4757 am4758 am4759 am47510 am47511 am47512 am47513 am47514 am47515 am47516))) fm0_openSet fm0_state fm0_votes fm0_heard fm0_names fm0_name fm0_slot fm0_parts fm0_trouble fm0_troubled fm0_happened fm0_commitCount fm0_first fm0_waiting fm0_sent fm0_lostCount am4751 am4752 am4753 am4754 am4755 am4756 am4757 am4758 am4759 am47510 am47511 am47512 am47513 am47514 am47515 am47516 (Nat.mul 3 x6)) (zq_L_lawOf_708 kk x6 x8 x10 x16 x17 fm0_openSet fm0_state fm0_votes fm0_heard fm0_names fm0_name fm0_slot fm0_parts fm0_trouble fm0_troubled fm0_happened fm0_commitCount fm0_first fm0_waiting fm0_sent fm0_lostCount am4751 am4752 am4753 am4754 am4755 am4756 am4757 am4758 am4759 am47510 am47511 am47512 am47513 am47514 am47515 am47516))
theorem zr_L_lawOf_677 {c : Nat} (hc : c ≤ 1023) {post : Int32 → St0 → Prop} {kk : Nat → Bool} {mc ms kc ks : Nat} {x6 x8 x10 x16 x17 z0 z1 fm0_openSet fm0_state fm0_votes fm0_heard fm0_names fm0_name fm0_slot fm0_parts fm0_trouble fm0_troubled fm0_happened fm0_commitCount fm0_first fm0_waiting fm0_sent fm0_lostCount am4751 am4752 am4753 am4754 am4755 am4756 am4757 am4758 am4759 am47510 am47511 am47512 am47513 am47514 am47515 am47516 : Nat} {X_x6 : Int32} (e_x6 : X_x6 = nI x6) {X_x8 : Int32} (e_x8 : X_x8 = nI x8) {X_x10 : Int32} (e_x10 : X_x10 = zb_dv c x10) {X_x16 : Int32} (e_x16 : X_x16 = nI x16) {X_x17 : Int32} (e_x17 : X_x17 = nI x17) {X_z0 : Int32} (e_z0 : X_z0 = zb_dv c z0) {X_z1 : Int32} (e_z1 : X_z1 = zb_dv c z1) (h : zq_L_lawOf_677 kk x6 x8 x10 x16 x17 z0 z1 fm0_openSet fm0_state fm0_votes fm0_heard fm0_names fm0_name fm0_slot fm0_parts fm0_trouble fm0_troubled fm0_happened fm0_commitCount fm0_first fm0_waiting fm0_sent fm0_lostCount am4751 am4752 am4753 am4754 am4755 am4756 am4757 am4758 am4759 am47510 am47511 am47512 am47513 am47514 am47515 am47516 = true) (hk : ∀ {r_ : Nat} {R_ : Int32}, R_ = nI r_ → kk r_  = true → post R_ ()) : wL_lawOf_677 post mc ms X_x6 X_x8 X_x10 X_x16 X_x17 X_z0 X_z1 kc ks (nI fm0_openSet) (nI fm0_state) (nI fm0_votes) (nI fm0_heard) (nI fm0_names) (nI fm0_name) (nI fm0_slot) (nI fm0_parts) (nI fm0_trouble) (nI fm0_troubled) (nI fm0_happened) (nI fm0_commitCount) (nI fm0_first) (nI fm0_waiting) (nI fm0_sent) (nI fm0_lostCount) (zb_va c am4751) (zb_ka am4752) (zb_ka am4753) (zb_ka am4754) (zb_ka am4755) (zb_va c am4756) (zb_va c am4757) (zb_ka am4758) (zb_ka am4759) (zb_va c am47510) (zb_ka am47511) (zb_ka am47512) (zb_ka am47513) (zb_ka am47514) (zb_ka am47515) (zb_ka am47516) := by
  subst e_x6
  subst e_x8
  subst e_x10
  subst e_x16
  subst e_x17
  subst e_z0
  subst e_z1
  unfold zq_L_lawOf_677 at h
  unfold wL_lawOf_677
  refine zb_if3_ok (zb_eq3P hc rfl rfl) h ?_ ?_
  · intro h
    refine zr_pX_holder hc (zb_mulP (rfl : (3 : Int32) = nI 3) rfl) h ?_
    intro r_912 R_ eR_ h
    subst eR_
    refine zb_if_ok (zb_eqP rfl zb_m200000) h ?_ ?_
    · intro h
      refine zr_pX_keys hc rfl h ?_
      intro r_914 R_ eR_ h
      subst eR_
      refine zb_if_ok (zb_eqP rfl (rfl : (0 : Int32) = nI 0)) h ?_ ?_
      · intro h
        exact zr_L_lawOf_709 hc rfl rfl rfl rfl rfl (rfl : (1 : Int32) = nI 1) h hk
      · intro h
        exact zr_L_lawOf_708 hc rfl rfl rfl rfl rfl h hk
    · intro h
      exact zr_L_lawOf_708 hc rfl rfl rfl rfl rfl h hk
  · intro h
    exact zr_L_lawOf_708 hc rfl rfl rfl rfl rfl h hk
noncomputable def zq_L_lawOf_654 (kk : Nat → Bool) (x6 x8 x10 x16 x17 z0 z1 fm0_openSet fm0_state fm0_votes fm0_heard fm0_names fm0_name fm0_slot fm0_parts fm0_trouble fm0_troubled fm0_happened fm0_commitCount fm0_first fm0_waiting fm0_sent fm0_lostCount am4751 am4752 am4753 am4754 am4755 am4756 am4757 am4758 am4759 am47510 am47511 am47512 am47513 am47514 am47515 am47516 : Nat) : Bool := (zb_if3 (zb_eq3 z1 z0) (zq_pX_total (fun r_909 => (zb_if (zb_eq x16 0) (zq_L_lawOf_677 kk x6 x8 x10 x16 x17 (zb_vadd (zb_vmul 3 x10) (zb_kv 3)) r_909 fm0_openSet fm0_state fm0_votes fm0_heard fm0_names fm0_name fm0_slot fm0_parts fm0_trouble fm0_troubled fm0_happened fm0_commitCount fm0_first fm0_waiting fm0_sent fm0_lostCount am4751 am4752 am4753 am4754 am4755 am4756 am4757 am4758 am4759 am47510 am47511 am47512 am47513 am47514 am47515 am47516) (zq_L_lawOf_677 kk x6 x8 x10 x16 x17 (zb_kv 0) r_909 fm0_openSet fm0_state fm0_votes fm0_heard fm0_names fm0_name fm0_slot fm0_parts fm0_trouble fm0_troubled fm0_happened fm0_commitCount fm0_first fm0_waiting fm0_sent fm0_lostCount am4751 am4752 am4753 am4754 am4755 am4756 am4757 am4758 am4759 am47510 am47511 am47512 am47513 am47514 am47515 am47516))) fm0_openSet fm0_state fm0_votes fm0_heard fm0_names fm0_name fm0_slot fm0_parts fm0_trouble fm0_troubled fm0_happened fm0_commitCount fm0_first fm0_waiting fm0_sent fm0_lostCount am4751 am4752 am4753 am4754 am4755 am4756 am4757 am4758 am4759 am47510 am47511 am47512 am47513 am47514 am47515 am47516) (zq_L_lawOf_708 kk x6 x8 x10 x16 x17 fm0_openSet fm0_state fm0_votes fm0_heard fm0_names fm0_name fm0_slot fm0_parts fm0_trouble fm0_troubled fm0_happened fm0_commitCount fm0_first fm0_waiting fm0_sent fm0_lostCount am4751 am4752 am4753 am4754 am4755 am4756 am4757 am4758 am4759 am47510 am47511 am47512 am47513 am47514 am47515 am47516))
theorem zr_L_lawOf_654 {c : Nat} (hc : c ≤ 1023) {post : Int32 → St0 → Prop} {kk : Nat → Bool} {mc ms kc ks : Nat} {x6 x8 x10 x16 x17 z0 z1 fm0_openSet fm0_state fm0_votes fm0_heard fm0_names fm0_name fm0_slot fm0_parts fm0_trouble fm0_troubled fm0_happened fm0_commitCount fm0_first fm0_waiting fm0_sent fm0_lostCount am4751 am4752 am4753 am4754 am4755 am4756 am4757 am4758 am4759 am47510 am47511 am47512 am47513 am47514 am47515 am47516 : Nat} {X_x6 : Int32} (e_x6 : X_x6 = nI x6) {X_x8 : Int32} (e_x8 : X_x8 = nI x8) {X_x10 : Int32} (e_x10 : X_x10 = zb_dv c x10) {X_x16 : Int32} (e_x16 : X_x16 = nI x16) {X_x17 : Int32} (e_x17 : X_x17 = nI x17) {X_z0 : Int32} (e_z0 : X_z0 = zb_dv c z0) {X_z1 : Int32} (e_z1 : X_z1 = zb_dv c z1) (h : zq_L_lawOf_654 kk x6 x8 x10 x16 x17 z0 z1 fm0_openSet fm0_state fm0_votes fm0_heard fm0_names fm0_name fm0_slot fm0_parts fm0_trouble fm0_troubled fm0_happened fm0_commitCount fm0_first fm0_waiting fm0_sent fm0_lostCount am4751 am4752 am4753 am4754 am4755 am4756 am4757 am4758 am4759 am47510 am47511 am47512 am47513 am47514 am47515 am47516 = true) (hk : ∀ {r_ : Nat} {R_ : Int32}, R_ = nI r_ → kk r_  = true → post R_ ()) : wL_lawOf_654 post mc ms X_x6 X_x8 X_x10 X_x16 X_x17 X_z0 X_z1 kc ks (nI fm0_openSet) (nI fm0_state) (nI fm0_votes) (nI fm0_heard) (nI fm0_names) (nI fm0_name) (nI fm0_slot) (nI fm0_parts) (nI fm0_trouble) (nI fm0_troubled) (nI fm0_happened) (nI fm0_commitCount) (nI fm0_first) (nI fm0_waiting) (nI fm0_sent) (nI fm0_lostCount) (zb_va c am4751) (zb_ka am4752) (zb_ka am4753) (zb_ka am4754) (zb_ka am4755) (zb_va c am4756) (zb_va c am4757) (zb_ka am4758) (zb_ka am4759) (zb_va c am47510) (zb_ka am47511) (zb_ka am47512) (zb_ka am47513) (zb_ka am47514) (zb_ka am47515) (zb_ka am47516) := by
  subst e_x6
  subst e_x8
  subst e_x10
  subst e_x16
  subst e_x17
  subst e_z0
  subst e_z1
  unfold zq_L_lawOf_654 at h
  unfold wL_lawOf_654
  refine zb_if3_ok (zb_eq3P hc rfl rfl) h ?_ ?_
  · intro h
    refine zr_pX_total hc h ?_
    intro r_909 R_ eR_ h
    subst eR_
    refine zb_if_ok (zb_eqP rfl (rfl : (0 : Int32) = nI 0)) h ?_ ?_
    · intro h
      exact zr_L_lawOf_677 hc rfl rfl rfl rfl rfl (zb_vaddP (zb_vmulP (rfl : (3 : Int32) = nI 3) rfl) (zb_kvP (rfl : (3 : Int32) = nI 3))) rfl h hk
    · intro h
      exact zr_L_lawOf_677 hc rfl rfl rfl rfl rfl (zb_kvP (rfl : (0 : Int32) = nI 0)) rfl h hk
  · intro h
    exact zr_L_lawOf_708 hc rfl rfl rfl rfl rfl h hk
noncomputable def zq_L_lawOf_632 (kk : Nat → Bool) (x6 x8 x10 x16 x17 z0 z1 fm0_openSet fm0_state fm0_votes fm0_heard fm0_names fm0_name fm0_slot fm0_parts fm0_trouble fm0_troubled fm0_happened fm0_commitCount fm0_first fm0_waiting fm0_sent fm0_lostCount am4751 am4752 am4753 am4754 am4755 am4756 am4757 am4758 am4759 am47510 am47511 am47512 am47513 am47514 am47515 am47516 : Nat) : Bool := (zb_if3 (zb_eq3 z1 z0) (zq_pX_sum (fun r_906 => (zb_if (zb_eq x16 0) (zq_L_lawOf_654 kk x6 x8 x10 x16 x17 (zb_vadd x10 (zb_kv 2)) r_906 fm0_openSet fm0_state fm0_votes fm0_heard fm0_names fm0_name fm0_slot fm0_parts fm0_trouble fm0_troubled fm0_happened fm0_commitCount fm0_first fm0_waiting fm0_sent fm0_lostCount am4751 am4752 am4753 am4754 am4755 am4756 am4757 am4758 am4759 am47510 am47511 am47512 am47513 am47514 am47515 am47516) (zq_L_lawOf_654 kk x6 x8 x10 x16 x17 (zb_kv 0) r_906 fm0_openSet fm0_state fm0_votes fm0_heard fm0_names fm0_name fm0_slot fm0_parts fm0_trouble fm0_troubled fm0_happened fm0_commitCount fm0_first fm0_waiting fm0_sent fm0_lostCount am4751 am4752 am4753 am4754 am4755 am4756 am4757 am4758 am4759 am47510 am47511 am47512 am47513 am47514 am47515 am47516))) fm0_openSet fm0_state fm0_votes fm0_heard fm0_names fm0_name fm0_slot fm0_parts fm0_trouble fm0_troubled fm0_happened fm0_commitCount fm0_first fm0_waiting fm0_sent fm0_lostCount am4751 am4752 am4753 am4754 am4755 am4756 am4757 am4758 am4759 am47510 am47511 am47512 am47513 am47514 am47515 am47516 2) (zq_L_lawOf_708 kk x6 x8 x10 x16 x17 fm0_openSet fm0_state fm0_votes fm0_heard fm0_names fm0_name fm0_slot fm0_parts fm0_trouble fm0_troubled fm0_happened fm0_commitCount fm0_first fm0_waiting fm0_sent fm0_lostCount am4751 am4752 am4753 am4754 am4755 am4756 am4757 am4758 am4759 am47510 am47511 am47512 am47513 am47514 am47515 am47516))
theorem zr_L_lawOf_632 {c : Nat} (hc : c ≤ 1023) {post : Int32 → St0 → Prop} {kk : Nat → Bool} {mc ms kc ks : Nat} {x6 x8 x10 x16 x17 z0 z1 fm0_openSet fm0_state fm0_votes fm0_heard fm0_names fm0_name fm0_slot fm0_parts fm0_trouble fm0_troubled fm0_happened fm0_commitCount fm0_first fm0_waiting fm0_sent fm0_lostCount am4751 am4752 am4753 am4754 am4755 am4756 am4757 am4758 am4759 am47510 am47511 am47512 am47513 am47514 am47515 am47516 : Nat} {X_x6 : Int32} (e_x6 : X_x6 = nI x6) {X_x8 : Int32} (e_x8 : X_x8 = nI x8) {X_x10 : Int32} (e_x10 : X_x10 = zb_dv c x10) {X_x16 : Int32} (e_x16 : X_x16 = nI x16) {X_x17 : Int32} (e_x17 : X_x17 = nI x17) {X_z0 : Int32} (e_z0 : X_z0 = zb_dv c z0) {X_z1 : Int32} (e_z1 : X_z1 = zb_dv c z1) (h : zq_L_lawOf_632 kk x6 x8 x10 x16 x17 z0 z1 fm0_openSet fm0_state fm0_votes fm0_heard fm0_names fm0_name fm0_slot fm0_parts fm0_trouble fm0_troubled fm0_happened fm0_commitCount fm0_first fm0_waiting fm0_sent fm0_lostCount am4751 am4752 am4753 am4754 am4755 am4756 am4757 am4758 am4759 am47510 am47511 am47512 am47513 am47514 am47515 am47516 = true) (hk : ∀ {r_ : Nat} {R_ : Int32}, R_ = nI r_ → kk r_  = true → post R_ ()) : wL_lawOf_632 post mc ms X_x6 X_x8 X_x10 X_x16 X_x17 X_z0 X_z1 kc ks (nI fm0_openSet) (nI fm0_state) (nI fm0_votes) (nI fm0_heard) (nI fm0_names) (nI fm0_name) (nI fm0_slot) (nI fm0_parts) (nI fm0_trouble) (nI fm0_troubled) (nI fm0_happened) (nI fm0_commitCount) (nI fm0_first) (nI fm0_waiting) (nI fm0_sent) (nI fm0_lostCount) (zb_va c am4751) (zb_ka am4752) (zb_ka am4753) (zb_ka am4754) (zb_ka am4755) (zb_va c am4756) (zb_va c am4757) (zb_ka am4758) (zb_ka am4759) (zb_va c am47510) (zb_ka am47511) (zb_ka am47512) (zb_ka am47513) (zb_ka am47514) (zb_ka am47515) (zb_ka am47516) := by
  subst e_x6
  subst e_x8
  subst e_x10
  subst e_x16
  subst e_x17
  subst e_z0
  subst e_z1
  unfold zq_L_lawOf_632 at h
  unfold wL_lawOf_632
  refine zb_if3_ok (zb_eq3P hc rfl rfl) h ?_ ?_
  · intro h
    refine zr_pX_sum hc (rfl : (2 : Int32) = nI 2) h ?_
    intro r_906 R_ eR_ h
    subst eR_
    refine zb_if_ok (zb_eqP rfl (rfl : (0 : Int32) = nI 0)) h ?_ ?_
    · intro h
      exact zr_L_lawOf_654 hc rfl rfl rfl rfl rfl (zb_vaddP rfl (zb_kvP (rfl : (2 : Int32) = nI 2))) rfl h hk
    · intro h
      exact zr_L_lawOf_654 hc rfl rfl rfl rfl rfl (zb_kvP (rfl : (0 : Int32) = nI 0)) rfl h hk
  · intro h
    exact zr_L_lawOf_708 hc rfl rfl rfl rfl rfl h hk
noncomputable def zq_L_lawOf_604 (kk : Nat → Bool) (x6 x8 x10 x16 x17 z0 z1 fm0_openSet fm0_state fm0_votes fm0_heard fm0_names fm0_name fm0_slot fm0_parts fm0_trouble fm0_troubled fm0_happened fm0_commitCount fm0_first fm0_waiting fm0_sent fm0_lostCount am4751 am4752 am4753 am4754 am4755 am4756 am4757 am4758 am4759 am47510 am47511 am47512 am47513 am47514 am47515 am47516 : Nat) : Bool := (zb_if3 (zb_eq3 z1 z0) (zq_pX_peek (fun r_903 => (zb_if (zb_eq x16 0) (zq_L_lawOf_632 kk x6 x8 x10 x16 x17 (zb_vadd x10 (zb_kv 6)) r_903 fm0_openSet fm0_state fm0_votes fm0_heard fm0_names fm0_name fm0_slot fm0_parts fm0_trouble fm0_troubled fm0_happened fm0_commitCount fm0_first fm0_waiting fm0_sent fm0_lostCount am4751 am4752 am4753 am4754 am4755 am4756 am4757 am4758 am4759 am47510 am47511 am47512 am47513 am47514 am47515 am47516) (zq_L_lawOf_632 kk x6 x8 x10 x16 x17 (zb_kv 0) r_903 fm0_openSet fm0_state fm0_votes fm0_heard fm0_names fm0_name fm0_slot fm0_parts fm0_trouble fm0_troubled fm0_happened fm0_commitCount fm0_first fm0_waiting fm0_sent fm0_lostCount am4751 am4752 am4753 am4754 am4755 am4756 am4757 am4758 am4759 am47510 am47511 am47512 am47513 am47514 am47515 am47516))) fm0_openSet fm0_state fm0_votes fm0_heard fm0_names fm0_name fm0_slot fm0_parts fm0_trouble fm0_troubled fm0_happened fm0_commitCount fm0_first fm0_waiting fm0_sent fm0_lostCount am4751 am4752 am4753 am4754 am4755 am4756 am4757 am4758 am4759 am47510 am47511 am47512 am47513 am47514 am47515 am47516 (Nat.add (Nat.mul 3 x6) 1)) (zq_L_lawOf_708 kk x6 x8 x10 x16 x17 fm0_openSet fm0_state fm0_votes fm0_heard fm0_names fm0_name fm0_slot fm0_parts fm0_trouble fm0_troubled fm0_happened fm0_commitCount fm0_first fm0_waiting fm0_sent fm0_lostCount am4751 am4752 am4753 am4754 am4755 am4756 am4757 am4758 am4759 am47510 am47511 am47512 am47513 am47514 am47515 am47516))
theorem zr_L_lawOf_604 {c : Nat} (hc : c ≤ 1023) {post : Int32 → St0 → Prop} {kk : Nat → Bool} {mc ms kc ks : Nat} {x6 x8 x10 x16 x17 z0 z1 fm0_openSet fm0_state fm0_votes fm0_heard fm0_names fm0_name fm0_slot fm0_parts fm0_trouble fm0_troubled fm0_happened fm0_commitCount fm0_first fm0_waiting fm0_sent fm0_lostCount am4751 am4752 am4753 am4754 am4755 am4756 am4757 am4758 am4759 am47510 am47511 am47512 am47513 am47514 am47515 am47516 : Nat} {X_x6 : Int32} (e_x6 : X_x6 = nI x6) {X_x8 : Int32} (e_x8 : X_x8 = nI x8) {X_x10 : Int32} (e_x10 : X_x10 = zb_dv c x10) {X_x16 : Int32} (e_x16 : X_x16 = nI x16) {X_x17 : Int32} (e_x17 : X_x17 = nI x17) {X_z0 : Int32} (e_z0 : X_z0 = zb_dv c z0) {X_z1 : Int32} (e_z1 : X_z1 = zb_dv c z1) (h : zq_L_lawOf_604 kk x6 x8 x10 x16 x17 z0 z1 fm0_openSet fm0_state fm0_votes fm0_heard fm0_names fm0_name fm0_slot fm0_parts fm0_trouble fm0_troubled fm0_happened fm0_commitCount fm0_first fm0_waiting fm0_sent fm0_lostCount am4751 am4752 am4753 am4754 am4755 am4756 am4757 am4758 am4759 am47510 am47511 am47512 am47513 am47514 am47515 am47516 = true) (hk : ∀ {r_ : Nat} {R_ : Int32}, R_ = nI r_ → kk r_  = true → post R_ ()) : wL_lawOf_604 post mc ms X_x6 X_x8 X_x10 X_x16 X_x17 X_z0 X_z1 kc ks (nI fm0_openSet) (nI fm0_state) (nI fm0_votes) (nI fm0_heard) (nI fm0_names) (nI fm0_name) (nI fm0_slot) (nI fm0_parts) (nI fm0_trouble) (nI fm0_troubled) (nI fm0_happened) (nI fm0_commitCount) (nI fm0_first) (nI fm0_waiting) (nI fm0_sent) (nI fm0_lostCount) (zb_va c am4751) (zb_ka am4752) (zb_ka am4753) (zb_ka am4754) (zb_ka am4755) (zb_va c am4756) (zb_va c am4757) (zb_ka am4758) (zb_ka am4759) (zb_va c am47510) (zb_ka am47511) (zb_ka am47512) (zb_ka am47513) (zb_ka am47514) (zb_ka am47515) (zb_ka am47516) := by
  subst e_x6
  subst e_x8
  subst e_x10
  subst e_x16
  subst e_x17
  subst e_z0
  subst e_z1
  unfold zq_L_lawOf_604 at h
  unfold wL_lawOf_604
  refine zb_if3_ok (zb_eq3P hc rfl rfl) h ?_ ?_
  · intro h
    refine zr_pX_peek hc (zb_addP (zb_mulP (rfl : (3 : Int32) = nI 3) rfl) (rfl : (1 : Int32) = nI 1)) h ?_
    intro r_903 R_ eR_ h
    subst eR_
    refine zb_if_ok (zb_eqP rfl (rfl : (0 : Int32) = nI 0)) h ?_ ?_
    · intro h
      exact zr_L_lawOf_632 hc rfl rfl rfl rfl rfl (zb_vaddP rfl (zb_kvP (rfl : (6 : Int32) = nI 6))) rfl h hk
    · intro h
      exact zr_L_lawOf_632 hc rfl rfl rfl rfl rfl (zb_kvP (rfl : (0 : Int32) = nI 0)) rfl h hk
  · intro h
    exact zr_L_lawOf_708 hc rfl rfl rfl rfl rfl h hk
noncomputable def zq_L_lawOf_579 (kk : Nat → Bool) (x6 x8 x10 x16 x17 z0 z1 fm0_openSet fm0_state fm0_votes fm0_heard fm0_names fm0_name fm0_slot fm0_parts fm0_trouble fm0_troubled fm0_happened fm0_commitCount fm0_first fm0_waiting fm0_sent fm0_lostCount am4751 am4752 am4753 am4754 am4755 am4756 am4757 am4758 am4759 am47510 am47511 am47512 am47513 am47514 am47515 am47516 : Nat) : Bool := (zb_if (zb_eq z1 z0) (zq_pX_peek (fun r_900 => (zb_if (zb_eq x16 0) (zq_L_lawOf_604 kk x6 x8 x10 x16 x17 (zb_vsub x10 5) r_900 fm0_openSet fm0_state fm0_votes fm0_heard fm0_names fm0_name fm0_slot fm0_parts fm0_trouble fm0_troubled fm0_happened fm0_commitCount fm0_first fm0_waiting fm0_sent fm0_lostCount am4751 am4752 am4753 am4754 am4755 am4756 am4757 am4758 am4759 am47510 am47511 am47512 am47513 am47514 am47515 am47516) (zq_L_lawOf_604 kk x6 x8 x10 x16 x17 (zb_kv 0) r_900 fm0_openSet fm0_state fm0_votes fm0_heard fm0_names fm0_name fm0_slot fm0_parts fm0_trouble fm0_troubled fm0_happened fm0_commitCount fm0_first fm0_waiting fm0_sent fm0_lostCount am4751 am4752 am4753 am4754 am4755 am4756 am4757 am4758 am4759 am47510 am47511 am47512 am47513 am47514 am47515 am47516))) fm0_openSet fm0_state fm0_votes fm0_heard fm0_names fm0_name fm0_slot fm0_parts fm0_trouble fm0_troubled fm0_happened fm0_commitCount fm0_first fm0_waiting fm0_sent fm0_lostCount am4751 am4752 am4753 am4754 am4755 am4756 am4757 am4758 am4759 am47510 am47511 am47512 am47513 am47514 am47515 am47516 (Nat.mul 3 x6)) (zq_L_lawOf_708 kk x6 x8 x10 x16 x17 fm0_openSet fm0_state fm0_votes fm0_heard fm0_names fm0_name fm0_slot fm0_parts fm0_trouble fm0_troubled fm0_happened fm0_commitCount fm0_first fm0_waiting fm0_sent fm0_lostCount am4751 am4752 am4753 am4754 am4755 am4756 am4757 am4758 am4759 am47510 am47511 am47512 am47513 am47514 am47515 am47516))
theorem zr_L_lawOf_579 {c : Nat} (hc : c ≤ 1023) {post : Int32 → St0 → Prop} {kk : Nat → Bool} {mc ms kc ks : Nat} {x6 x8 x10 x16 x17 z0 z1 fm0_openSet fm0_state fm0_votes fm0_heard fm0_names fm0_name fm0_slot fm0_parts fm0_trouble fm0_troubled fm0_happened fm0_commitCount fm0_first fm0_waiting fm0_sent fm0_lostCount am4751 am4752 am4753 am4754 am4755 am4756 am4757 am4758 am4759 am47510 am47511 am47512 am47513 am47514 am47515 am47516 : Nat} {X_x6 : Int32} (e_x6 : X_x6 = nI x6) {X_x8 : Int32} (e_x8 : X_x8 = nI x8) {X_x10 : Int32} (e_x10 : X_x10 = zb_dv c x10) {X_x16 : Int32} (e_x16 : X_x16 = nI x16) {X_x17 : Int32} (e_x17 : X_x17 = nI x17) {X_z0 : Int32} (e_z0 : X_z0 = nI z0) {X_z1 : Int32} (e_z1 : X_z1 = nI z1) (h : zq_L_lawOf_579 kk x6 x8 x10 x16 x17 z0 z1 fm0_openSet fm0_state fm0_votes fm0_heard fm0_names fm0_name fm0_slot fm0_parts fm0_trouble fm0_troubled fm0_happened fm0_commitCount fm0_first fm0_waiting fm0_sent fm0_lostCount am4751 am4752 am4753 am4754 am4755 am4756 am4757 am4758 am4759 am47510 am47511 am47512 am47513 am47514 am47515 am47516 = true) (hk : ∀ {r_ : Nat} {R_ : Int32}, R_ = nI r_ → kk r_  = true → post R_ ()) : wL_lawOf_579 post mc ms X_x6 X_x8 X_x10 X_x16 X_x17 X_z0 X_z1 kc ks (nI fm0_openSet) (nI fm0_state) (nI fm0_votes) (nI fm0_heard) (nI fm0_names) (nI fm0_name) (nI fm0_slot) (nI fm0_parts) (nI fm0_trouble) (nI fm0_troubled) (nI fm0_happened) (nI fm0_commitCount) (nI fm0_first) (nI fm0_waiting) (nI fm0_sent) (nI fm0_lostCount) (zb_va c am4751) (zb_ka am4752) (zb_ka am4753) (zb_ka am4754) (zb_ka am4755) (zb_va c am4756) (zb_va c am4757) (zb_ka am4758) (zb_ka am4759) (zb_va c am47510) (zb_ka am47511) (zb_ka am47512) (zb_ka am47513) (zb_ka am47514) (zb_ka am47515) (zb_ka am47516) := by
  subst e_x6
  subst e_x8
  subst e_x10
  subst e_x16
  subst e_x17
  subst e_z0
  subst e_z1
  unfold zq_L_lawOf_579 at h
  unfold wL_lawOf_579
  refine zb_if_ok (zb_eqP rfl rfl) h ?_ ?_
  · intro h
    refine zr_pX_peek hc (zb_mulP (rfl : (3 : Int32) = nI 3) rfl) h ?_
    intro r_900 R_ eR_ h
    subst eR_
    refine zb_if_ok (zb_eqP rfl (rfl : (0 : Int32) = nI 0)) h ?_ ?_
    · intro h
      exact zr_L_lawOf_604 hc rfl rfl rfl rfl rfl (zb_vsubP rfl (rfl : (5 : Int32) = nI 5)) rfl h hk
    · intro h
      exact zr_L_lawOf_604 hc rfl rfl rfl rfl rfl (zb_kvP (rfl : (0 : Int32) = nI 0)) rfl h hk
  · intro h
    exact zr_L_lawOf_708 hc rfl rfl rfl rfl rfl h hk
noncomputable def zq_L_lawOf_561 (kk : Nat → Bool) (x6 x8 x10 x16 x17 z0 z1 fm0_openSet fm0_state fm0_votes fm0_heard fm0_names fm0_name fm0_slot fm0_parts fm0_trouble fm0_troubled fm0_happened fm0_commitCount fm0_first fm0_waiting fm0_sent fm0_lostCount am4751 am4752 am4753 am4754 am4755 am4756 am4757 am4758 am4759 am47510 am47511 am47512 am47513 am47514 am47515 am47516 : Nat) : Bool := (zb_if (zb_eq z1 z0) (zq_pX_commits (fun r_897 => (zb_if (zb_eq x16 0) (zq_L_lawOf_579 kk x6 x8 x10 x16 x17 1 r_897 fm0_openSet fm0_state fm0_votes fm0_heard fm0_names fm0_name fm0_slot fm0_parts fm0_trouble fm0_troubled fm0_happened fm0_commitCount fm0_first fm0_waiting fm0_sent fm0_lostCount am4751 am4752 am4753 am4754 am4755 am4756 am4757 am4758 am4759 am47510 am47511 am47512 am47513 am47514 am47515 am47516) (zq_L_lawOf_579 kk x6 x8 x10 x16 x17 0 r_897 fm0_openSet fm0_state fm0_votes fm0_heard fm0_names fm0_name fm0_slot fm0_parts fm0_trouble fm0_troubled fm0_happened fm0_commitCount fm0_first fm0_waiting fm0_sent fm0_lostCount am4751 am4752 am4753 am4754 am4755 am4756 am4757 am4758 am4759 am47510 am47511 am47512 am47513 am47514 am47515 am47516))) fm0_openSet fm0_state fm0_votes fm0_heard fm0_names fm0_name fm0_slot fm0_parts fm0_trouble fm0_troubled fm0_happened fm0_commitCount fm0_first fm0_waiting fm0_sent fm0_lostCount am4751 am4752 am4753 am4754 am4755 am4756 am4757 am4758 am4759 am47510 am47511 am47512 am47513 am47514 am47515 am47516) (zq_L_lawOf_708 kk x6 x8 x10 x16 x17 fm0_openSet fm0_state fm0_votes fm0_heard fm0_names fm0_name fm0_slot fm0_parts fm0_trouble fm0_troubled fm0_happened fm0_commitCount fm0_first fm0_waiting fm0_sent fm0_lostCount am4751 am4752 am4753 am4754 am4755 am4756 am4757 am4758 am4759 am47510 am47511 am47512 am47513 am47514 am47515 am47516))
theorem zr_L_lawOf_561 {c : Nat} (hc : c ≤ 1023) {post : Int32 → St0 → Prop} {kk : Nat → Bool} {mc ms kc ks : Nat} {x6 x8 x10 x16 x17 z0 z1 fm0_openSet fm0_state fm0_votes fm0_heard fm0_names fm0_name fm0_slot fm0_parts fm0_trouble fm0_troubled fm0_happened fm0_commitCount fm0_first fm0_waiting fm0_sent fm0_lostCount am4751 am4752 am4753 am4754 am4755 am4756 am4757 am4758 am4759 am47510 am47511 am47512 am47513 am47514 am47515 am47516 : Nat} {X_x6 : Int32} (e_x6 : X_x6 = nI x6) {X_x8 : Int32} (e_x8 : X_x8 = nI x8) {X_x10 : Int32} (e_x10 : X_x10 = zb_dv c x10) {X_x16 : Int32} (e_x16 : X_x16 = nI x16) {X_x17 : Int32} (e_x17 : X_x17 = nI x17) {X_z0 : Int32} (e_z0 : X_z0 = nI z0) {X_z1 : Int32} (e_z1 : X_z1 = nI z1) (h : zq_L_lawOf_561 kk x6 x8 x10 x16 x17 z0 z1 fm0_openSet fm0_state fm0_votes fm0_heard fm0_names fm0_name fm0_slot fm0_parts fm0_trouble fm0_troubled fm0_happened fm0_commitCount fm0_first fm0_waiting fm0_sent fm0_lostCount am4751 am4752 am4753 am4754 am4755 am4756 am4757 am4758 am4759 am47510 am47511 am47512 am47513 am47514 am47515 am47516 = true) (hk : ∀ {r_ : Nat} {R_ : Int32}, R_ = nI r_ → kk r_  = true → post R_ ()) : wL_lawOf_561 post mc ms X_x6 X_x8 X_x10 X_x16 X_x17 X_z0 X_z1 kc ks (nI fm0_openSet) (nI fm0_state) (nI fm0_votes) (nI fm0_heard) (nI fm0_names) (nI fm0_name) (nI fm0_slot) (nI fm0_parts) (nI fm0_trouble) (nI fm0_troubled) (nI fm0_happened) (nI fm0_commitCount) (nI fm0_first) (nI fm0_waiting) (nI fm0_sent) (nI fm0_lostCount) (zb_va c am4751) (zb_ka am4752) (zb_ka am4753) (zb_ka am4754) (zb_ka am4755) (zb_va c am4756) (zb_va c am4757) (zb_ka am4758) (zb_ka am4759) (zb_va c am47510) (zb_ka am47511) (zb_ka am47512) (zb_ka am47513) (zb_ka am47514) (zb_ka am47515) (zb_ka am47516) := by
  subst e_x6
  subst e_x8
  subst e_x10
  subst e_x16
  subst e_x17
  subst e_z0
  subst e_z1
  unfold zq_L_lawOf_561 at h
  unfold wL_lawOf_561
  refine zb_if_ok (zb_eqP rfl rfl) h ?_ ?_
  · intro h
    refine zr_pX_commits hc h ?_
    intro r_897 R_ eR_ h
    subst eR_
    refine zb_if_ok (zb_eqP rfl (rfl : (0 : Int32) = nI 0)) h ?_ ?_
    · intro h
      exact zr_L_lawOf_579 hc rfl rfl rfl rfl rfl (rfl : (1 : Int32) = nI 1) rfl h hk
    · intro h
      exact zr_L_lawOf_579 hc rfl rfl rfl rfl rfl (rfl : (0 : Int32) = nI 0) rfl h hk
  · intro h
    exact zr_L_lawOf_708 hc rfl rfl rfl rfl rfl h hk
noncomputable def zq_L_lawOf_535 (kk : Nat → Bool) (x6 x8 x10 x16 x17 z0 z1 fm0_openSet fm0_state fm0_votes fm0_heard fm0_names fm0_name fm0_slot fm0_parts fm0_trouble fm0_troubled fm0_happened fm0_commitCount fm0_first fm0_waiting fm0_sent fm0_lostCount am4751 am4752 am4753 am4754 am4755 am4756 am4757 am4758 am4759 am47510 am47511 am47512 am47513 am47514 am47515 am47516 : Nat) : Bool := (zb_if (zb_eq z1 z0) (zq_pX_open (fun r_894 => (zb_if (zb_eq x17 0) (zq_L_lawOf_561 kk x6 x8 x10 x16 x17 (Nat.land 15 (Nat.xor (zb_shl 1 x6) 4294967295)) r_894 fm0_openSet fm0_state fm0_votes fm0_heard fm0_names fm0_name fm0_slot fm0_parts fm0_trouble fm0_troubled fm0_happened fm0_commitCount fm0_first fm0_waiting fm0_sent fm0_lostCount am4751 am4752 am4753 am4754 am4755 am4756 am4757 am4758 am4759 am47510 am47511 am47512 am47513 am47514 am47515 am47516) (zq_L_lawOf_561 kk x6 x8 x10 x16 x17 0 r_894 fm0_openSet fm0_state fm0_votes fm0_heard fm0_names fm0_name fm0_slot fm0_parts fm0_trouble fm0_troubled fm0_happened fm0_commitCount fm0_first fm0_waiting fm0_sent fm0_lostCount am4751 am4752 am4753 am4754 am4755 am4756 am4757 am4758 am4759 am47510 am47511 am47512 am47513 am47514 am47515 am47516))) fm0_openSet fm0_state fm0_votes fm0_heard fm0_names fm0_name fm0_slot fm0_parts fm0_trouble fm0_troubled fm0_happened fm0_commitCount fm0_first fm0_waiting fm0_sent fm0_lostCount am4751 am4752 am4753 am4754 am4755 am4756 am4757 am4758 am4759 am47510 am47511 am47512 am47513 am47514 am47515 am47516) (zq_L_lawOf_708 kk x6 x8 x10 x16 x17 fm0_openSet fm0_state fm0_votes fm0_heard fm0_names fm0_name fm0_slot fm0_parts fm0_trouble fm0_troubled fm0_happened fm0_commitCount fm0_first fm0_waiting fm0_sent fm0_lostCount am4751 am4752 am4753 am4754 am4755 am4756 am4757 am4758 am4759 am47510 am47511 am47512 am47513 am47514 am47515 am47516))
theorem zr_L_lawOf_535 {c : Nat} (hc : c ≤ 1023) {post : Int32 → St0 → Prop} {kk : Nat → Bool} {mc ms kc ks : Nat} {x6 x8 x10 x16 x17 z0 z1 fm0_openSet fm0_state fm0_votes fm0_heard fm0_names fm0_name fm0_slot fm0_parts fm0_trouble fm0_troubled fm0_happened fm0_commitCount fm0_first fm0_waiting fm0_sent fm0_lostCount am4751 am4752 am4753 am4754 am4755 am4756 am4757 am4758 am4759 am47510 am47511 am47512 am47513 am47514 am47515 am47516 : Nat} {X_x6 : Int32} (e_x6 : X_x6 = nI x6) {X_x8 : Int32} (e_x8 : X_x8 = nI x8) {X_x10 : Int32} (e_x10 : X_x10 = zb_dv c x10) {X_x16 : Int32} (e_x16 : X_x16 = nI x16) {X_x17 : Int32} (e_x17 : X_x17 = nI x17) {X_z0 : Int32} (e_z0 : X_z0 = nI z0) {X_z1 : Int32} (e_z1 : X_z1 = nI z1) (h : zq_L_lawOf_535 kk x6 x8 x10 x16 x17 z0 z1 fm0_openSet fm0_state fm0_votes fm0_heard fm0_names fm0_name fm0_slot fm0_parts fm0_trouble fm0_troubled fm0_happened fm0_commitCount fm0_first fm0_waiting fm0_sent fm0_lostCount am4751 am4752 am4753 am4754 am4755 am4756 am4757 am4758 am4759 am47510 am47511 am47512 am47513 am47514 am47515 am47516 = true) (hk : ∀ {r_ : Nat} {R_ : Int32}, R_ = nI r_ → kk r_  = true → post R_ ()) : wL_lawOf_535 post mc ms X_x6 X_x8 X_x10 X_x16 X_x17 X_z0 X_z1 kc ks (nI fm0_openSet) (nI fm0_state) (nI fm0_votes) (nI fm0_heard) (nI fm0_names) (nI fm0_name) (nI fm0_slot) (nI fm0_parts) (nI fm0_trouble) (nI fm0_troubled) (nI fm0_happened) (nI fm0_commitCount) (nI fm0_first) (nI fm0_waiting) (nI fm0_sent) (nI fm0_lostCount) (zb_va c am4751) (zb_ka am4752) (zb_ka am4753) (zb_ka am4754) (zb_ka am4755) (zb_va c am4756) (zb_va c am4757) (zb_ka am4758) (zb_ka am4759) (zb_va c am47510) (zb_ka am47511) (zb_ka am47512) (zb_ka am47513) (zb_ka am47514) (zb_ka am47515) (zb_ka am47516) := by
  subst e_x6
  subst e_x8
  subst e_x10
  subst e_x16
  subst e_x17
  subst e_z0
  subst e_z1
  unfold zq_L_lawOf_535 at h
  unfold wL_lawOf_535
  refine zb_if_ok (zb_eqP rfl rfl) h ?_ ?_
  · intro h
    refine zr_pX_open hc h ?_
    intro r_894 R_ eR_ h
    subst eR_
    refine zb_if_ok (zb_eqP rfl (rfl : (0 : Int32) = nI 0)) h ?_ ?_
    · intro h
      exact zr_L_lawOf_561 hc rfl rfl rfl rfl rfl (zb_andP (rfl : (15 : Int32) = nI 15) (zb_xorP (zb_shlP (rfl : (1 : Int32) = nI 1) rfl) zb_m1)) rfl h hk
    · intro h
      exact zr_L_lawOf_561 hc rfl rfl rfl rfl rfl (rfl : (0 : Int32) = nI 0) rfl h hk
  · intro h
    exact zr_L_lawOf_708 hc rfl rfl rfl rfl rfl h hk
noncomputable def zq_L_lawOf_516 (kk : Nat → Bool) (x6 x8 x9 x10 x15 x16 z0 fm0_openSet fm0_state fm0_votes fm0_heard fm0_names fm0_name fm0_slot fm0_parts fm0_trouble fm0_troubled fm0_happened fm0_commitCount fm0_first fm0_waiting fm0_sent fm0_lostCount am4751 am4752 am4753 am4754 am4755 am4756 am4757 am4758 am4759 am47510 am47511 am47512 am47513 am47514 am47515 am47516 : Nat) : Bool := (zb_if (zb_eq x9 0) (zq_L_lawOf_708 kk x6 x8 x10 x16 z0 fm0_openSet fm0_state fm0_votes fm0_heard fm0_names fm0_name fm0_slot fm0_parts fm0_trouble fm0_troubled fm0_happened fm0_commitCount fm0_first fm0_waiting fm0_sent fm0_lostCount am4751 am4752 am4753 am4754 am4755 am4756 am4757 am4758 am4759 am47510 am47511 am47512 am47513 am47514 am47515 am47516) (zb_if (zb_eq x16 0) (zq_L_lawOf_535 kk x6 x8 x10 x16 z0 1 x15 fm0_openSet fm0_state fm0_votes fm0_heard fm0_names fm0_name fm0_slot fm0_parts fm0_trouble fm0_troubled fm0_happened fm0_commitCount fm0_first fm0_waiting fm0_sent fm0_lostCount am4751 am4752 am4753 am4754 am4755 am4756 am4757 am4758 am4759 am47510 am47511 am47512 am47513 am47514 am47515 am47516) (zq_L_lawOf_535 kk x6 x8 x10 x16 z0 0 x15 fm0_openSet fm0_state fm0_votes fm0_heard fm0_names fm0_name fm0_slot fm0_parts fm0_trouble fm0_troubled fm0_happened fm0_commitCount fm0_first fm0_waiting fm0_sent fm0_lostCount am4751 am4752 am4753 am4754 am4755 am4756 am4757 am4758 am4759 am47510 am47511 am47512 am47513 am47514 am47515 am47516)))
theorem zr_L_lawOf_516 {c : Nat} (hc : c ≤ 1023) {post : Int32 → St0 → Prop} {kk : Nat → Bool} {mc ms kc ks : Nat} {x6 x8 x9 x10 x15 x16 z0 fm0_openSet fm0_state fm0_votes fm0_heard fm0_names fm0_name fm0_slot fm0_parts fm0_trouble fm0_troubled fm0_happened fm0_commitCount fm0_first fm0_waiting fm0_sent fm0_lostCount am4751 am4752 am4753 am4754 am4755 am4756 am4757 am4758 am4759 am47510 am47511 am47512 am47513 am47514 am47515 am47516 : Nat} {X_x6 : Int32} (e_x6 : X_x6 = nI x6) {X_x8 : Int32} (e_x8 : X_x8 = nI x8) {X_x9 : Int32} (e_x9 : X_x9 = nI x9) {X_x10 : Int32} (e_x10 : X_x10 = zb_dv c x10) {X_x15 : Int32} (e_x15 : X_x15 = nI x15) {X_x16 : Int32} (e_x16 : X_x16 = nI x16) {X_z0 : Int32} (e_z0 : X_z0 = nI z0) (h : zq_L_lawOf_516 kk x6 x8 x9 x10 x15 x16 z0 fm0_openSet fm0_state fm0_votes fm0_heard fm0_names fm0_name fm0_slot fm0_parts fm0_trouble fm0_troubled fm0_happened fm0_commitCount fm0_first fm0_waiting fm0_sent fm0_lostCount am4751 am4752 am4753 am4754 am4755 am4756 am4757 am4758 am4759 am47510 am47511 am47512 am47513 am47514 am47515 am47516 = true) (hk : ∀ {r_ : Nat} {R_ : Int32}, R_ = nI r_ → kk r_  = true → post R_ ()) : wL_lawOf_516 post mc ms X_x6 X_x8 X_x9 X_x10 X_x15 X_x16 X_z0 kc ks (nI fm0_openSet) (nI fm0_state) (nI fm0_votes) (nI fm0_heard) (nI fm0_names) (nI fm0_name) (nI fm0_slot) (nI fm0_parts) (nI fm0_trouble) (nI fm0_troubled) (nI fm0_happened) (nI fm0_commitCount) (nI fm0_first) (nI fm0_waiting) (nI fm0_sent) (nI fm0_lostCount) (zb_va c am4751) (zb_ka am4752) (zb_ka am4753) (zb_ka am4754) (zb_ka am4755) (zb_va c am4756) (zb_va c am4757) (zb_ka am4758) (zb_ka am4759) (zb_va c am47510) (zb_ka am47511) (zb_ka am47512) (zb_ka am47513) (zb_ka am47514) (zb_ka am47515) (zb_ka am47516) := by
  subst e_x6
  subst e_x8
  subst e_x9
  subst e_x10
  subst e_x15
  subst e_x16
  subst e_z0
  unfold zq_L_lawOf_516 at h
  unfold wL_lawOf_516
  refine zb_if_ok (zb_eqP rfl (rfl : (0 : Int32) = nI 0)) h ?_ ?_
  · intro h
    exact zr_L_lawOf_708 hc rfl rfl rfl rfl rfl h hk
  · intro h
    refine zb_if_ok (zb_eqP rfl (rfl : (0 : Int32) = nI 0)) h ?_ ?_
    · intro h
      exact zr_L_lawOf_535 hc rfl rfl rfl rfl rfl (rfl : (1 : Int32) = nI 1) rfl h hk
    · intro h
      exact zr_L_lawOf_535 hc rfl rfl rfl rfl rfl (rfl : (0 : Int32) = nI 0) rfl h hk
noncomputable def zq_L_lawOf_515 (kk : Nat → Bool) (x6 x8 x9 x10 x15 x16 fm0_openSet fm0_state fm0_votes fm0_heard fm0_names fm0_name fm0_slot fm0_parts fm0_trouble fm0_troubled fm0_happened fm0_commitCount fm0_first fm0_waiting fm0_sent fm0_lostCount am4751 am4752 am4753 am4754 am4755 am4756 am4757 am4758 am4759 am47510 am47511 am47512 am47513 am47514 am47515 am47516 : Nat) : Bool := (zq_L_lawOf_516 kk x6 x8 x9 x10 x15 x16 0 fm0_openSet fm0_state fm0_votes fm0_heard fm0_names fm0_name fm0_slot fm0_parts fm0_trouble fm0_troubled fm0_happened fm0_commitCount fm0_first fm0_waiting fm0_sent fm0_lostCount am4751 am4752 am4753 am4754 am4755 am4756 am4757 am4758 am4759 am47510 am47511 am47512 am47513 am47514 am47515 am47516)
theorem zr_L_lawOf_515 {c : Nat} (hc : c ≤ 1023) {post : Int32 → St0 → Prop} {kk : Nat → Bool} {mc ms kc ks : Nat} {x6 x8 x9 x10 x15 x16 fm0_openSet fm0_state fm0_votes fm0_heard fm0_names fm0_name fm0_slot fm0_parts fm0_trouble fm0_troubled fm0_happened fm0_commitCount fm0_first fm0_waiting fm0_sent fm0_lostCount am4751 am4752 am4753 am4754 am4755 am4756 am4757 am4758 am4759 am47510 am47511 am47512 am47513 am47514 am47515 am47516 : Nat} {X_x6 : Int32} (e_x6 : X_x6 = nI x6) {X_x8 : Int32} (e_x8 : X_x8 = nI x8) {X_x9 : Int32} (e_x9 : X_x9 = nI x9) {X_x10 : Int32} (e_x10 : X_x10 = zb_dv c x10) {X_x15 : Int32} (e_x15 : X_x15 = nI x15) {X_x16 : Int32} (e_x16 : X_x16 = nI x16) (h : zq_L_lawOf_515 kk x6 x8 x9 x10 x15 x16 fm0_openSet fm0_state fm0_votes fm0_heard fm0_names fm0_name fm0_slot fm0_parts fm0_trouble fm0_troubled fm0_happened fm0_commitCount fm0_first fm0_waiting fm0_sent fm0_lostCount am4751 am4752 am4753 am4754 am4755 am4756 am4757 am4758 am4759 am47510 am47511 am47512 am47513 am47514 am47515 am47516 = true) (hk : ∀ {r_ : Nat} {R_ : Int32}, R_ = nI r_ → kk r_  = true → post R_ ()) : wL_lawOf_515 post mc ms X_x6 X_x8 X_x9 X_x10 X_x15 X_x16 kc ks (nI fm0_openSet) (nI fm0_state) (nI fm0_votes) (nI fm0_heard) (nI fm0_names) (nI fm0_name) (nI fm0_slot) (nI fm0_parts) (nI fm0_trouble) (nI fm0_troubled) (nI fm0_happened) (nI fm0_commitCount) (nI fm0_first) (nI fm0_waiting) (nI fm0_sent) (nI fm0_lostCount) (zb_va c am4751) (zb_ka am4752) (zb_ka am4753) (zb_ka am4754) (zb_ka am4755) (zb_va c am4756) (zb_va c am4757) (zb_ka am4758) (zb_ka am4759) (zb_va c am47510) (zb_ka am47511) (zb_ka am47512) (zb_ka am47513) (zb_ka am47514) (zb_ka am47515) (zb_ka am47516) := by
  subst e_x6
  subst e_x8
  subst e_x9
  subst e_x10
  subst e_x15
  subst e_x16
  unfold zq_L_lawOf_515 at h
  unfold wL_lawOf_515
  exact zr_L_lawOf_516 hc rfl rfl rfl rfl rfl rfl (rfl : (0 : Int32) = nI 0) h hk
noncomputable def zq_L_lawOf_497 (kk : Nat → Bool) (x6 x7 x8 x9 x10 x15 z0 fm0_openSet fm0_state fm0_votes fm0_heard fm0_names fm0_name fm0_slot fm0_parts fm0_trouble fm0_troubled fm0_happened fm0_commitCount fm0_first fm0_waiting fm0_sent fm0_lostCount am4751 am4752 am4753 am4754 am4755 am4756 am4757 am4758 am4759 am47510 am47511 am47512 am47513 am47514 am47515 am47516 : Nat) : Bool := (zb_if (zb_lt x7 1) (zq_L_lawOf_515 kk x6 x8 x9 x10 x15 z0 fm0_openSet fm0_state fm0_votes fm0_heard fm0_names fm0_name fm0_slot fm0_parts fm0_trouble fm0_troubled fm0_happened fm0_commitCount fm0_first fm0_waiting fm0_sent fm0_lostCount am4751 am4752 am4753 am4754 am4755 am4756 am4757 am4758 am4759 am47510 am47511 am47512 am47513 am47514 am47515 am47516) (zb_if (zb_lt 5 x7) (zq_L_lawOf_515 kk x6 x8 x9 x10 x15 z0 fm0_openSet fm0_state fm0_votes fm0_heard fm0_names fm0_name fm0_slot fm0_parts fm0_trouble fm0_troubled fm0_happened fm0_commitCount fm0_first fm0_waiting fm0_sent fm0_lostCount am4751 am4752 am4753 am4754 am4755 am4756 am4757 am4758 am4759 am47510 am47511 am47512 am47513 am47514 am47515 am47516) (zq_L_lawOf_516 kk x6 x8 x9 x10 x15 z0 1 fm0_openSet fm0_state fm0_votes fm0_heard fm0_names fm0_name fm0_slot fm0_parts fm0_trouble fm0_troubled fm0_happened fm0_commitCount fm0_first fm0_waiting fm0_sent fm0_lostCount am4751 am4752 am4753 am4754 am4755 am4756 am4757 am4758 am4759 am47510 am47511 am47512 am47513 am47514 am47515 am47516)))
theorem zr_L_lawOf_497 {c : Nat} (hc : c ≤ 1023) {post : Int32 → St0 → Prop} {kk : Nat → Bool} {mc ms kc ks : Nat} {x6 x7 x8 x9 x10 x15 z0 fm0_openSet fm0_state fm0_votes fm0_heard fm0_names fm0_name fm0_slot fm0_parts fm0_trouble fm0_troubled fm0_happened fm0_commitCount fm0_first fm0_waiting fm0_sent fm0_lostCount am4751 am4752 am4753 am4754 am4755 am4756 am4757 am4758 am4759 am47510 am47511 am47512 am47513 am47514 am47515 am47516 : Nat} {X_x6 : Int32} (e_x6 : X_x6 = nI x6) {X_x7 : Int32} (e_x7 : X_x7 = nI x7) {X_x8 : Int32} (e_x8 : X_x8 = nI x8) {X_x9 : Int32} (e_x9 : X_x9 = nI x9) {X_x10 : Int32} (e_x10 : X_x10 = zb_dv c x10) {X_x15 : Int32} (e_x15 : X_x15 = nI x15) {X_z0 : Int32} (e_z0 : X_z0 = nI z0) (h : zq_L_lawOf_497 kk x6 x7 x8 x9 x10 x15 z0 fm0_openSet fm0_state fm0_votes fm0_heard fm0_names fm0_name fm0_slot fm0_parts fm0_trouble fm0_troubled fm0_happened fm0_commitCount fm0_first fm0_waiting fm0_sent fm0_lostCount am4751 am4752 am4753 am4754 am4755 am4756 am4757 am4758 am4759 am47510 am47511 am47512 am47513 am47514 am47515 am47516 = true) (hk : ∀ {r_ : Nat} {R_ : Int32}, R_ = nI r_ → kk r_  = true → post R_ ()) : wL_lawOf_497 post mc ms X_x6 X_x7 X_x8 X_x9 X_x10 X_x15 X_z0 kc ks (nI fm0_openSet) (nI fm0_state) (nI fm0_votes) (nI fm0_heard) (nI fm0_names) (nI fm0_name) (nI fm0_slot) (nI fm0_parts) (nI fm0_trouble) (nI fm0_troubled) (nI fm0_happened) (nI fm0_commitCount) (nI fm0_first) (nI fm0_waiting) (nI fm0_sent) (nI fm0_lostCount) (zb_va c am4751) (zb_ka am4752) (zb_ka am4753) (zb_ka am4754) (zb_ka am4755) (zb_va c am4756) (zb_va c am4757) (zb_ka am4758) (zb_ka am4759) (zb_va c am47510) (zb_ka am47511) (zb_ka am47512) (zb_ka am47513) (zb_ka am47514) (zb_ka am47515) (zb_ka am47516) := by
  subst e_x6
  subst e_x7
  subst e_x8
  subst e_x9
  subst e_x10
  subst e_x15
  subst e_z0
  unfold zq_L_lawOf_497 at h
  unfold wL_lawOf_497
  refine zb_if_ok (zb_ltP rfl (rfl : (1 : Int32) = nI 1)) h ?_ ?_
  · intro h
    exact zr_L_lawOf_515 hc rfl rfl rfl rfl rfl rfl h hk
  · intro h
    refine zb_if_ok (zb_ltP (rfl : (5 : Int32) = nI 5) rfl) h ?_ ?_
    · intro h
      exact zr_L_lawOf_515 hc rfl rfl rfl rfl rfl rfl h hk
    · intro h
      exact zr_L_lawOf_516 hc rfl rfl rfl rfl rfl rfl (rfl : (1 : Int32) = nI 1) h hk
noncomputable def zq_L_lawOf_492 (kk : Nat → Bool) (x6 x7 x8 x9 x10 x15 fm0_openSet fm0_state fm0_votes fm0_heard fm0_names fm0_name fm0_slot fm0_parts fm0_trouble fm0_troubled fm0_happened fm0_commitCount fm0_first fm0_waiting fm0_sent fm0_lostCount am4751 am4752 am4753 am4754 am4755 am4756 am4757 am4758 am4759 am47510 am47511 am47512 am47513 am47514 am47515 am47516 : Nat) : Bool := (zq_L_lawOf_497 kk x6 x7 x8 x9 x10 x15 1 fm0_openSet fm0_state fm0_votes fm0_heard fm0_names fm0_name fm0_slot fm0_parts fm0_trouble fm0_troubled fm0_happened fm0_commitCount fm0_first fm0_waiting fm0_sent fm0_lostCount am4751 am4752 am4753 am4754 am4755 am4756 am4757 am4758 am4759 am47510 am47511 am47512 am47513 am47514 am47515 am47516)
theorem zr_L_lawOf_492 {c : Nat} (hc : c ≤ 1023) {post : Int32 → St0 → Prop} {kk : Nat → Bool} {mc ms kc ks : Nat} {x6 x7 x8 x9 x10 x15 fm0_openSet fm0_state fm0_votes fm0_heard fm0_names fm0_name fm0_slot fm0_parts fm0_trouble fm0_troubled fm0_happened fm0_commitCount fm0_first fm0_waiting fm0_sent fm0_lostCount am4751 am4752 am4753 am4754 am4755 am4756 am4757 am4758 am4759 am47510 am47511 am47512 am47513 am47514 am47515 am47516 : Nat} {X_x6 : Int32} (e_x6 : X_x6 = nI x6) {X_x7 : Int32} (e_x7 : X_x7 = nI x7) {X_x8 : Int32} (e_x8 : X_x8 = nI x8) {X_x9 : Int32} (e_x9 : X_x9 = nI x9) {X_x10 : Int32} (e_x10 : X_x10 = zb_dv c x10) {X_x15 : Int32} (e_x15 : X_x15 = nI x15) (h : zq_L_lawOf_492 kk x6 x7 x8 x9 x10 x15 fm0_openSet fm0_state fm0_votes fm0_heard fm0_names fm0_name fm0_slot fm0_parts fm0_trouble fm0_troubled fm0_happened fm0_commitCount fm0_first fm0_waiting fm0_sent fm0_lostCount am4751 am4752 am4753 am4754 am4755 am4756 am4757 am4758 am4759 am47510 am47511 am47512 am47513 am47514 am47515 am47516 = true) (hk : ∀ {r_ : Nat} {R_ : Int32}, R_ = nI r_ → kk r_  = true → post R_ ()) : wL_lawOf_492 post mc ms X_x6 X_x7 X_x8 X_x9 X_x10 X_x15 kc ks (nI fm0_openSet) (nI fm0_state) (nI fm0_votes) (nI fm0_heard) (nI fm0_names) (nI fm0_name) (nI fm0_slot) (nI fm0_parts) (nI fm0_trouble) (nI fm0_troubled) (nI fm0_happened) (nI fm0_commitCount) (nI fm0_first) (nI fm0_waiting) (nI fm0_sent) (nI fm0_lostCount) (zb_va c am4751) (zb_ka am4752) (zb_ka am4753) (zb_ka am4754) (zb_ka am4755) (zb_va c am4756) (zb_va c am4757) (zb_ka am4758) (zb_ka am4759) (zb_va c am47510) (zb_ka am47511) (zb_ka am47512) (zb_ka am47513) (zb_ka am47514) (zb_ka am47515) (zb_ka am47516) := by
  subst e_x6
  subst e_x7
  subst e_x8
  subst e_x9
  subst e_x10
  subst e_x15
  unfold zq_L_lawOf_492 at h
  unfold wL_lawOf_492
  exact zr_L_lawOf_497 hc rfl rfl rfl rfl rfl rfl (rfl : (1 : Int32) = nI 1) h hk
noncomputable def zq_L_lawOf_465 (kk : Nat → Bool) (x6 x7 x8 x10 z0 fm0_openSet fm0_state fm0_votes fm0_heard fm0_names fm0_name fm0_slot fm0_parts fm0_trouble fm0_troubled fm0_happened fm0_commitCount fm0_first fm0_waiting fm0_sent fm0_lostCount am3661 am3662 am3663 am3664 am3665 am3666 am3667 am3668 am3669 am36610 am36611 am36612 am36613 am36614 am36615 am36616 : Nat) : Bool := (zq_pX_commit (fun r_278 fm0_openSet_279 fm0_state_280 fm0_votes_281 fm0_heard_282 fm0_names_283 fm0_name_284 fm0_slot_285 fm0_parts_286 fm0_trouble_287 fm0_troubled_288 fm0_happened_289 fm0_commitCount_290 fm0_first_291 fm0_waiting_292 fm0_sent_293 fm0_lostCount_294 am4751_297 am4752_300 am4753_303 am4754_306 am4755_309 am4756_312 am4757_315 am4758_318 am4759_321 am47510_324 am47511_327 am47512_330 am47513_333 am47514_336 am47515_339 am47516_342 => (zb_if (zb_eq x7 1) (zq_L_lawOf_492 kk x6 x7 x8 z0 x10 r_278 fm0_openSet_279 fm0_state_280 fm0_votes_281 fm0_heard_282 fm0_names_283 fm0_name_284 fm0_slot_285 fm0_parts_286 fm0_trouble_287 fm0_troubled_288 fm0_happened_289 fm0_commitCount_290 fm0_first_291 fm0_waiting_292 fm0_sent_293 fm0_lostCount_294 am4751_297 am4752_300 am4753_303 am4754_306 am4755_309 am4756_312 am4757_315 am4758_318 am4759_321 am47510_324 am47511_327 am47512_330 am47513_333 am47514_336 am47515_339 am47516_342) (zb_if (zb_eq x7 2) (zq_L_lawOf_492 kk x6 x7 x8 z0 x10 r_278 fm0_openSet_279 fm0_state_280 fm0_votes_281 fm0_heard_282 fm0_names_283 fm0_name_284 fm0_slot_285 fm0_parts_286 fm0_trouble_287 fm0_troubled_288 fm0_happened_289 fm0_commitCount_290 fm0_first_291 fm0_waiting_292 fm0_sent_293 fm0_lostCount_294 am4751_297 am4752_300 am4753_303 am4754_306 am4755_309 am4756_312 am4757_315 am4758_318 am4759_321 am47510_324 am47511_327 am47512_330 am47513_333 am47514_336 am47515_339 am47516_342) (zq_L_lawOf_497 kk x6 x7 x8 z0 x10 r_278 0 fm0_openSet_279 fm0_state_280 fm0_votes_281 fm0_heard_282 fm0_names_283 fm0_name_284 fm0_slot_285 fm0_parts_286 fm0_trouble_287 fm0_troubled_288 fm0_happened_289 fm0_commitCount_290 fm0_first_291 fm0_waiting_292 fm0_sent_293 fm0_lostCount_294 am4751_297 am4752_300 am4753_303 am4754_306 am4755_309 am4756_312 am4757_315 am4758_318 am4759_321 am47510_324 am47511_327 am47512_330 am47513_333 am47514_336 am47515_339 am47516_342)))) fm0_openSet fm0_state fm0_votes fm0_heard fm0_names fm0_name fm0_slot fm0_parts fm0_trouble fm0_troubled fm0_happened fm0_commitCount fm0_first fm0_waiting fm0_sent fm0_lostCount am3661 am3662 am3663 am3664 am3665 am3666 am3667 am3668 am3669 am36610 am36611 am36612 am36613 am36614 am36615 am36616 x6 x7 x8)
theorem zr_L_lawOf_465 {c : Nat} (hc : c ≤ 1023) {post : Int32 → St0 → Prop} {kk : Nat → Bool} {mc ms kc ks : Nat} {x6 x7 x8 x10 z0 fm0_openSet fm0_state fm0_votes fm0_heard fm0_names fm0_name fm0_slot fm0_parts fm0_trouble fm0_troubled fm0_happened fm0_commitCount fm0_first fm0_waiting fm0_sent fm0_lostCount am3661 am3662 am3663 am3664 am3665 am3666 am3667 am3668 am3669 am36610 am36611 am36612 am36613 am36614 am36615 am36616 : Nat} {X_x6 : Int32} (e_x6 : X_x6 = nI x6) {X_x7 : Int32} (e_x7 : X_x7 = nI x7) {X_x8 : Int32} (e_x8 : X_x8 = nI x8) {X_x10 : Int32} (e_x10 : X_x10 = zb_dv c x10) {X_z0 : Int32} (e_z0 : X_z0 = nI z0) (h : zq_L_lawOf_465 kk x6 x7 x8 x10 z0 fm0_openSet fm0_state fm0_votes fm0_heard fm0_names fm0_name fm0_slot fm0_parts fm0_trouble fm0_troubled fm0_happened fm0_commitCount fm0_first fm0_waiting fm0_sent fm0_lostCount am3661 am3662 am3663 am3664 am3665 am3666 am3667 am3668 am3669 am36610 am36611 am36612 am36613 am36614 am36615 am36616 = true) (hk : ∀ {r_ : Nat} {R_ : Int32}, R_ = nI r_ → kk r_  = true → post R_ ()) : wL_lawOf_465 post mc ms X_x6 X_x7 X_x8 X_x10 X_z0 kc ks (nI fm0_openSet) (nI fm0_state) (nI fm0_votes) (nI fm0_heard) (nI fm0_names) (nI fm0_name) (nI fm0_slot) (nI fm0_parts) (nI fm0_trouble) (nI fm0_troubled) (nI fm0_happened) (nI fm0_commitCount) (nI fm0_first) (nI fm0_waiting) (nI fm0_sent) (nI fm0_lostCount) (zb_va c am3661) (zb_ka am3662) (zb_ka am3663) (zb_ka am3664) (zb_ka am3665) (zb_va c am3666) (zb_va c am3667) (zb_ka am3668) (zb_ka am3669) (zb_va c am36610) (zb_ka am36611) (zb_ka am36612) (zb_ka am36613) (zb_ka am36614) (zb_ka am36615) (zb_ka am36616) := by
  subst e_x6
  subst e_x7
  subst e_x8
  subst e_x10
  subst e_z0
  unfold zq_L_lawOf_465 at h
  unfold wL_lawOf_465
  refine zr_pX_commit hc rfl rfl rfl h ?_
  intro r_278 R_ eR_ fm0_openSet_279 fm0_state_280 fm0_votes_281 fm0_heard_282 fm0_names_283 fm0_name_284 fm0_slot_285 fm0_parts_286 fm0_trouble_287 fm0_troubled_288 fm0_happened_289 fm0_commitCount_290 fm0_first_291 fm0_waiting_292 fm0_sent_293 fm0_lostCount_294 am4751_297 am4752_300 am4753_303 am4754_306 am4755_309 am4756_312 am4757_315 am4758_318 am4759_321 am47510_324 am47511_327 am47512_330 am47513_333 am47514_336 am47515_339 am47516_342 h
  subst eR_
  refine zb_if_ok (zb_eqP rfl (rfl : (1 : Int32) = nI 1)) h ?_ ?_
  · intro h
    exact zr_L_lawOf_492 hc rfl rfl rfl rfl rfl rfl h hk
  · intro h
    refine zb_if_ok (zb_eqP rfl (rfl : (2 : Int32) = nI 2)) h ?_ ?_
    · intro h
      exact zr_L_lawOf_492 hc rfl rfl rfl rfl rfl rfl h hk
    · intro h
      exact zr_L_lawOf_497 hc rfl rfl rfl rfl rfl rfl (rfl : (0 : Int32) = nI 0) h hk
noncomputable def zq_L_lawOf_464 (kk : Nat → Bool) (x6 x7 x8 x10 fm0_openSet fm0_state fm0_votes fm0_heard fm0_names fm0_name fm0_slot fm0_parts fm0_trouble fm0_troubled fm0_happened fm0_commitCount fm0_first fm0_waiting fm0_sent fm0_lostCount am3661 am3662 am3663 am3664 am3665 am3666 am3667 am3668 am3669 am36610 am36611 am36612 am36613 am36614 am36615 am36616 : Nat) : Bool := (zq_L_lawOf_465 kk x6 x7 x8 x10 0 fm0_openSet fm0_state fm0_votes fm0_heard fm0_names fm0_name fm0_slot fm0_parts fm0_trouble fm0_troubled fm0_happened fm0_commitCount fm0_first fm0_waiting fm0_sent fm0_lostCount am3661 am3662 am3663 am3664 am3665 am3666 am3667 am3668 am3669 am36610 am36611 am36612 am36613 am36614 am36615 am36616)
theorem zr_L_lawOf_464 {c : Nat} (hc : c ≤ 1023) {post : Int32 → St0 → Prop} {kk : Nat → Bool} {mc ms kc ks : Nat} {x6 x7 x8 x10 fm0_openSet fm0_state fm0_votes fm0_heard fm0_names fm0_name fm0_slot fm0_parts fm0_trouble fm0_troubled fm0_happened fm0_commitCount fm0_first fm0_waiting fm0_sent fm0_lostCount am3661 am3662 am3663 am3664 am3665 am3666 am3667 am3668 am3669 am36610 am36611 am36612 am36613 am36614 am36615 am36616 : Nat} {X_x6 : Int32} (e_x6 : X_x6 = nI x6) {X_x7 : Int32} (e_x7 : X_x7 = nI x7) {X_x8 : Int32} (e_x8 : X_x8 = nI x8) {X_x10 : Int32} (e_x10 : X_x10 = zb_dv c x10) (h : zq_L_lawOf_464 kk x6 x7 x8 x10 fm0_openSet fm0_state fm0_votes fm0_heard fm0_names fm0_name fm0_slot fm0_parts fm0_trouble fm0_troubled fm0_happened fm0_commitCount fm0_first fm0_waiting fm0_sent fm0_lostCount am3661 am3662 am3663 am3664 am3665 am3666 am3667 am3668 am3669 am36610 am36611 am36612 am36613 am36614 am36615 am36616 = true) (hk : ∀ {r_ : Nat} {R_ : Int32}, R_ = nI r_ → kk r_  = true → post R_ ()) : wL_lawOf_464 post mc ms X_x6 X_x7 X_x8 X_x10 kc ks (nI fm0_openSet) (nI fm0_state) (nI fm0_votes) (nI fm0_heard) (nI fm0_names) (nI fm0_name) (nI fm0_slot) (nI fm0_parts) (nI fm0_trouble) (nI fm0_troubled) (nI fm0_happened) (nI fm0_commitCount) (nI fm0_first) (nI fm0_waiting) (nI fm0_sent) (nI fm0_lostCount) (zb_va c am3661) (zb_ka am3662) (zb_ka am3663) (zb_ka am3664) (zb_ka am3665) (zb_va c am3666) (zb_va c am3667) (zb_ka am3668) (zb_ka am3669) (zb_va c am36610) (zb_ka am36611) (zb_ka am36612) (zb_ka am36613) (zb_ka am36614) (zb_ka am36615) (zb_ka am36616) := by
  subst e_x6
  subst e_x7
  subst e_x8
  subst e_x10
  unfold zq_L_lawOf_464 at h
  unfold wL_lawOf_464
  exact zr_L_lawOf_465 hc rfl rfl rfl rfl (rfl : (0 : Int32) = nI 0) h hk
noncomputable def zq_L_lawOf_438 (kk : Nat → Bool) (x6 x7 x8 x10 x13 z0 z1 fm0_openSet fm0_state fm0_votes fm0_heard fm0_names fm0_name fm0_slot fm0_parts fm0_trouble fm0_troubled fm0_happened fm0_commitCount fm0_first fm0_waiting fm0_sent fm0_lostCount am3661 am3662 am3663 am3664 am3665 am3666 am3667 am3668 am3669 am36610 am36611 am36612 am36613 am36614 am36615 am36616 : Nat) : Bool := (zb_if3 (zb_eq3 z1 z0) (zb_if3 (zb_eq3 x13 (zb_kv 4294767296)) (zq_pX_peek (fun r_922 => (zb_if3 (zb_eq3 r_922 (zb_kv 0)) (zq_L_lawOf_465 kk x6 x7 x8 x10 1 fm0_openSet fm0_state fm0_votes fm0_heard fm0_names fm0_name fm0_slot fm0_parts fm0_trouble fm0_troubled fm0_happened fm0_commitCount fm0_first fm0_waiting fm0_sent fm0_lostCount am3661 am3662 am3663 am3664 am3665 am3666 am3667 am3668 am3669 am36610 am36611 am36612 am36613 am36614 am36615 am36616) (zq_L_lawOf_464 kk x6 x7 x8 x10 fm0_openSet fm0_state fm0_votes fm0_heard fm0_names fm0_name fm0_slot fm0_parts fm0_trouble fm0_troubled fm0_happened fm0_commitCount fm0_first fm0_waiting fm0_sent fm0_lostCount am3661 am3662 am3663 am3664 am3665 am3666 am3667 am3668 am3669 am36610 am36611 am36612 am36613 am36614 am36615 am36616))) fm0_openSet fm0_state fm0_votes fm0_heard fm0_names fm0_name fm0_slot fm0_parts fm0_trouble fm0_troubled fm0_happened fm0_commitCount fm0_first fm0_waiting fm0_sent fm0_lostCount am3661 am3662 am3663 am3664 am3665 am3666 am3667 am3668 am3669 am36610 am36611 am36612 am36613 am36614 am36615 am36616 (Nat.mul 3 x6)) (zq_L_lawOf_464 kk x6 x7 x8 x10 fm0_openSet fm0_state fm0_votes fm0_heard fm0_names fm0_name fm0_slot fm0_parts fm0_trouble fm0_troubled fm0_happened fm0_commitCount fm0_first fm0_waiting fm0_sent fm0_lostCount am3661 am3662 am3663 am3664 am3665 am3666 am3667 am3668 am3669 am36610 am36611 am36612 am36613 am36614 am36615 am36616)) (zq_L_lawOf_464 kk x6 x7 x8 x10 fm0_openSet fm0_state fm0_votes fm0_heard fm0_names fm0_name fm0_slot fm0_parts fm0_trouble fm0_troubled fm0_happened fm0_commitCount fm0_first fm0_waiting fm0_sent fm0_lostCount am3661 am3662 am3663 am3664 am3665 am3666 am3667 am3668 am3669 am36610 am36611 am36612 am36613 am36614 am36615 am36616))
theorem zr_L_lawOf_438 {c : Nat} (hc : c ≤ 1023) {post : Int32 → St0 → Prop} {kk : Nat → Bool} {mc ms kc ks : Nat} {x6 x7 x8 x10 x13 z0 z1 fm0_openSet fm0_state fm0_votes fm0_heard fm0_names fm0_name fm0_slot fm0_parts fm0_trouble fm0_troubled fm0_happened fm0_commitCount fm0_first fm0_waiting fm0_sent fm0_lostCount am3661 am3662 am3663 am3664 am3665 am3666 am3667 am3668 am3669 am36610 am36611 am36612 am36613 am36614 am36615 am36616 : Nat} {X_x6 : Int32} (e_x6 : X_x6 = nI x6) {X_x7 : Int32} (e_x7 : X_x7 = nI x7) {X_x8 : Int32} (e_x8 : X_x8 = nI x8) {X_x10 : Int32} (e_x10 : X_x10 = zb_dv c x10) {X_x13 : Int32} (e_x13 : X_x13 = zb_dv c x13) {X_z0 : Int32} (e_z0 : X_z0 = zb_dv c z0) {X_z1 : Int32} (e_z1 : X_z1 = zb_dv c z1) (h : zq_L_lawOf_438 kk x6 x7 x8 x10 x13 z0 z1 fm0_openSet fm0_state fm0_votes fm0_heard fm0_names fm0_name fm0_slot fm0_parts fm0_trouble fm0_troubled fm0_happened fm0_commitCount fm0_first fm0_waiting fm0_sent fm0_lostCount am3661 am3662 am3663 am3664 am3665 am3666 am3667 am3668 am3669 am36610 am36611 am36612 am36613 am36614 am36615 am36616 = true) (hk : ∀ {r_ : Nat} {R_ : Int32}, R_ = nI r_ → kk r_  = true → post R_ ()) : wL_lawOf_438 post mc ms X_x6 X_x7 X_x8 X_x10 X_x13 X_z0 X_z1 kc ks (nI fm0_openSet) (nI fm0_state) (nI fm0_votes) (nI fm0_heard) (nI fm0_names) (nI fm0_name) (nI fm0_slot) (nI fm0_parts) (nI fm0_trouble) (nI fm0_troubled) (nI fm0_happened) (nI fm0_commitCount) (nI fm0_first) (nI fm0_waiting) (nI fm0_sent) (nI fm0_lostCount) (zb_va c am3661) (zb_ka am3662) (zb_ka am3663) (zb_ka am3664) (zb_ka am3665) (zb_va c am3666) (zb_va c am3667) (zb_ka am3668) (zb_ka am3669) (zb_va c am36610) (zb_ka am36611) (zb_ka am36612) (zb_ka am36613) (zb_ka am36614) (zb_ka am36615) (zb_ka am36616) := by
  subst e_x6
  subst e_x7
  subst e_x8
  subst e_x10
  subst e_x13
  subst e_z0
  subst e_z1
  unfold zq_L_lawOf_438 at h
  unfold wL_lawOf_438
  refine zb_if3_ok (zb_eq3P hc rfl rfl) h ?_ ?_
  · intro h
    refine zb_if3_ok (zb_eq3P hc rfl (zb_kvP zb_m200000)) h ?_ ?_
    · intro h
      refine zr_pX_peek hc (zb_mulP (rfl : (3 : Int32) = nI 3) rfl) h ?_
      intro r_922 R_ eR_ h
      subst eR_
      refine zb_if3_ok (zb_eq3P hc rfl (zb_kvP (rfl : (0 : Int32) = nI 0))) h ?_ ?_
      · intro h
        exact zr_L_lawOf_465 hc rfl rfl rfl rfl (rfl : (1 : Int32) = nI 1) h hk
      · intro h
        exact zr_L_lawOf_464 hc rfl rfl rfl rfl h hk
    · intro h
      exact zr_L_lawOf_464 hc rfl rfl rfl rfl h hk
  · intro h
    exact zr_L_lawOf_464 hc rfl rfl rfl rfl h hk
noncomputable def zq_L_lawOf_427 (kk : Nat → Bool) (x6 x7 x8 x10 x13 z0 fm0_openSet fm0_state fm0_votes fm0_heard fm0_names fm0_name fm0_slot fm0_parts fm0_trouble fm0_troubled fm0_happened fm0_commitCount fm0_first fm0_waiting fm0_sent fm0_lostCount am3661 am3662 am3663 am3664 am3665 am3666 am3667 am3668 am3669 am36610 am36611 am36612 am36613 am36614 am36615 am36616 : Nat) : Bool := (zq_L_lawOf_438 kk x6 x7 x8 x10 x13 (zb_kv 4294767296) z0 fm0_openSet fm0_state fm0_votes fm0_heard fm0_names fm0_name fm0_slot fm0_parts fm0_trouble fm0_troubled fm0_happened fm0_commitCount fm0_first fm0_waiting fm0_sent fm0_lostCount am3661 am3662 am3663 am3664 am3665 am3666 am3667 am3668 am3669 am36610 am36611 am36612 am36613 am36614 am36615 am36616)
theorem zr_L_lawOf_427 {c : Nat} (hc : c ≤ 1023) {post : Int32 → St0 → Prop} {kk : Nat → Bool} {mc ms kc ks : Nat} {x6 x7 x8 x10 x13 z0 fm0_openSet fm0_state fm0_votes fm0_heard fm0_names fm0_name fm0_slot fm0_parts fm0_trouble fm0_troubled fm0_happened fm0_commitCount fm0_first fm0_waiting fm0_sent fm0_lostCount am3661 am3662 am3663 am3664 am3665 am3666 am3667 am3668 am3669 am36610 am36611 am36612 am36613 am36614 am36615 am36616 : Nat} {X_x6 : Int32} (e_x6 : X_x6 = nI x6) {X_x7 : Int32} (e_x7 : X_x7 = nI x7) {X_x8 : Int32} (e_x8 : X_x8 = nI x8) {X_x10 : Int32} (e_x10 : X_x10 = zb_dv c x10) {X_x13 : Int32} (e_x13 : X_x13 = zb_dv c x13) {X_z0 : Int32} (e_z0 : X_z0 = zb_dv c z0) (h : zq_L_lawOf_427 kk x6 x7 x8 x10 x13 z0 fm0_openSet fm0_state fm0_votes fm0_heard fm0_names fm0_name fm0_slot fm0_parts fm0_trouble fm0_troubled fm0_happened fm0_commitCount fm0_first fm0_waiting fm0_sent fm0_lostCount am3661 am3662 am3663 am3664 am3665 am3666 am3667 am3668 am3669 am36610 am36611 am36612 am36613 am36614 am36615 am36616 = true) (hk : ∀ {r_ : Nat} {R_ : Int32}, R_ = nI r_ → kk r_  = true → post R_ ()) : wL_lawOf_427 post mc ms X_x6 X_x7 X_x8 X_x10 X_x13 X_z0 kc ks (nI fm0_openSet) (nI fm0_state) (nI fm0_votes) (nI fm0_heard) (nI fm0_names) (nI fm0_name) (nI fm0_slot) (nI fm0_parts) (nI fm0_trouble) (nI fm0_troubled) (nI fm0_happened) (nI fm0_commitCount) (nI fm0_first) (nI fm0_waiting) (nI fm0_sent) (nI fm0_lostCount) (zb_va c am3661) (zb_ka am3662) (zb_ka am3663) (zb_ka am3664) (zb_ka am3665) (zb_va c am3666) (zb_va c am3667) (zb_ka am3668) (zb_ka am3669) (zb_va c am36610) (zb_ka am36611) (zb_ka am36612) (zb_ka am36613) (zb_ka am36614) (zb_ka am36615) (zb_ka am36616) := by
  subst e_x6
  subst e_x7
  subst e_x8
  subst e_x10
  subst e_x13
  subst e_z0
  unfold zq_L_lawOf_427 at h
  unfold wL_lawOf_427
  exact zr_L_lawOf_438 hc rfl rfl rfl rfl rfl (zb_kvP zb_m200000) rfl h hk
noncomputable def zq_L_lawOf_390 (kk : Nat → Bool) (x6 x7 x8 x9 x10 x11 x12 x13 z0 fm0_openSet fm0_state fm0_votes fm0_heard fm0_names fm0_name fm0_slot fm0_parts fm0_trouble fm0_troubled fm0_happened fm0_commitCount fm0_first fm0_waiting fm0_sent fm0_lostCount am3661 am3662 am3663 am3664 am3665 am3666 am3667 am3668 am3669 am36610 am36611 am36612 am36613 am36614 am36615 am36616 : Nat) : Bool := (zb_if (zb_eq x9 0) (zq_L_lawOf_464 kk x6 x7 x8 x10 fm0_openSet fm0_state fm0_votes fm0_heard fm0_names fm0_name fm0_slot fm0_parts fm0_trouble fm0_troubled fm0_happened fm0_commitCount fm0_first fm0_waiting fm0_sent fm0_lostCount am3661 am3662 am3663 am3664 am3665 am3666 am3667 am3668 am3669 am36610 am36611 am36612 am36613 am36614 am36615 am36616) (zb_if3 (zb_eq3 x11 (zb_vsub x10 5)) (zb_if (zb_eq z0 0) (zb_if3 (zb_le3 (zb_vadd (zb_vadd x10 (zb_kv 2)) (zb_kv 9999)) (zb_kv 9999)) (zq_L_lawOf_438 kk x6 x7 x8 x10 x13 (zb_vsub x10 10004) x12 fm0_openSet fm0_state fm0_votes fm0_heard fm0_names fm0_name fm0_slot fm0_parts fm0_trouble fm0_troubled fm0_happened fm0_commitCount fm0_first fm0_waiting fm0_sent fm0_lostCount am3661 am3662 am3663 am3664 am3665 am3666 am3667 am3668 am3669 am36610 am36611 am36612 am36613 am36614 am36615 am36616) (zq_L_lawOf_427 kk x6 x7 x8 x10 x13 x12 fm0_openSet fm0_state fm0_votes fm0_heard fm0_names fm0_name fm0_slot fm0_parts fm0_trouble fm0_troubled fm0_happened fm0_commitCount fm0_first fm0_waiting fm0_sent fm0_lostCount am3661 am3662 am3663 am3664 am3665 am3666 am3667 am3668 am3669 am36610 am36611 am36612 am36613 am36614 am36615 am36616)) (zq_L_lawOf_427 kk x6 x7 x8 x10 x13 x12 fm0_openSet fm0_state fm0_votes fm0_heard fm0_names fm0_name fm0_slot fm0_parts fm0_trouble fm0_troubled fm0_happened fm0_commitCount fm0_first fm0_waiting fm0_sent fm0_lostCount am3661 am3662 am3663 am3664 am3665 am3666 am3667 am3668 am3669 am36610 am36611 am36612 am36613 am36614 am36615 am36616)) (zq_L_lawOf_464 kk x6 x7 x8 x10 fm0_openSet fm0_state fm0_votes fm0_heard fm0_names fm0_name fm0_slot fm0_parts fm0_trouble fm0_troubled fm0_happened fm0_commitCount fm0_first fm0_waiting fm0_sent fm0_lostCount am3661 am3662 am3663 am3664 am3665 am3666 am3667 am3668 am3669 am36610 am36611 am36612 am36613 am36614 am36615 am36616)))
theorem zr_L_lawOf_390 {c : Nat} (hc : c ≤ 1023) {post : Int32 → St0 → Prop} {kk : Nat → Bool} {mc ms kc ks : Nat} {x6 x7 x8 x9 x10 x11 x12 x13 z0 fm0_openSet fm0_state fm0_votes fm0_heard fm0_names fm0_name fm0_slot fm0_parts fm0_trouble fm0_troubled fm0_happened fm0_commitCount fm0_first fm0_waiting fm0_sent fm0_lostCount am3661 am3662 am3663 am3664 am3665 am3666 am3667 am3668 am3669 am36610 am36611 am36612 am36613 am36614 am36615 am36616 : Nat} {X_x6 : Int32} (e_x6 : X_x6 = nI x6) {X_x7 : Int32} (e_x7 : X_x7 = nI x7) {X_x8 : Int32} (e_x8 : X_x8 = nI x8) {X_x9 : Int32} (e_x9 : X_x9 = nI x9) {X_x10 : Int32} (e_x10 : X_x10 = zb_dv c x10) {X_x11 : Int32} (e_x11 : X_x11 = zb_dv c x11) {X_x12 : Int32} (e_x12 : X_x12 = zb_dv c x12) {X_x13 : Int32} (e_x13 : X_x13 = zb_dv c x13) {X_z0 : Int32} (e_z0 : X_z0 = nI z0) (h : zq_L_lawOf_390 kk x6 x7 x8 x9 x10 x11 x12 x13 z0 fm0_openSet fm0_state fm0_votes fm0_heard fm0_names fm0_name fm0_slot fm0_parts fm0_trouble fm0_troubled fm0_happened fm0_commitCount fm0_first fm0_waiting fm0_sent fm0_lostCount am3661 am3662 am3663 am3664 am3665 am3666 am3667 am3668 am3669 am36610 am36611 am36612 am36613 am36614 am36615 am36616 = true) (hk : ∀ {r_ : Nat} {R_ : Int32}, R_ = nI r_ → kk r_  = true → post R_ ()) : wL_lawOf_390 post mc ms X_x6 X_x7 X_x8 X_x9 X_x10 X_x11 X_x12 X_x13 X_z0 kc ks (nI fm0_openSet) (nI fm0_state) (nI fm0_votes) (nI fm0_heard) (nI fm0_names) (nI fm0_name) (nI fm0_slot) (nI fm0_parts) (nI fm0_trouble) (nI fm0_troubled) (nI fm0_happened) (nI fm0_commitCount) (nI fm0_first) (nI fm0_waiting) (nI fm0_sent) (nI fm0_lostCount) (zb_va c am3661) (zb_ka am3662) (zb_ka am3663) (zb_ka am3664) (zb_ka am3665) (zb_va c am3666) (zb_va c am3667) (zb_ka am3668) (zb_ka am3669) (zb_va c am36610) (zb_ka am36611) (zb_ka am36612) (zb_ka am36613) (zb_ka am36614) (zb_ka am36615) (zb_ka am36616) := by
  subst e_x6
  subst e_x7
  subst e_x8
  subst e_x9
  subst e_x10
  subst e_x11
  subst e_x12
  subst e_x13
  subst e_z0
  unfold zq_L_lawOf_390 at h
  unfold wL_lawOf_390
  refine zb_if_ok (zb_eqP rfl (rfl : (0 : Int32) = nI 0)) h ?_ ?_
  · intro h
    exact zr_L_lawOf_464 hc rfl rfl rfl rfl h hk
  · intro h
    refine zb_if3_ok (zb_eq3P hc rfl (zb_vsubP rfl (rfl : (5 : Int32) = nI 5))) h ?_ ?_
    · intro h
      refine zb_if_ok (zb_eqP rfl (rfl : (0 : Int32) = nI 0)) h ?_ ?_
      · intro h
        refine zb_if3_ok (zb_le3P hc (zb_vaddP (zb_vaddP rfl (zb_kvP (rfl : (2 : Int32) = nI 2))) (zb_kvP (rfl : (9999 : Int32) = nI 9999))) (zb_kvP (rfl : (9999 : Int32) = nI 9999))) h ?_ ?_
        · intro h
          exact zr_L_lawOf_438 hc rfl rfl rfl rfl rfl (zb_vsubP rfl (rfl : (10004 : Int32) = nI 10004)) rfl h hk
        · intro h
          exact zr_L_lawOf_427 hc rfl rfl rfl rfl rfl rfl h hk
      · intro h
        exact zr_L_lawOf_427 hc rfl rfl rfl rfl rfl rfl h hk
    · intro h
      exact zr_L_lawOf_464 hc rfl rfl rfl rfl h hk
noncomputable def zq_L_lawOf_281 (kk : Nat → Bool) (x5 x6 x7 x8 z0 fm0_openSet fm0_state fm0_votes fm0_heard fm0_names fm0_name fm0_slot fm0_parts fm0_trouble fm0_troubled fm0_happened fm0_commitCount fm0_first fm0_waiting fm0_sent fm0_lostCount am41 am42 am43 am44 am45 am46 am47 am48 am49 am410 am411 am412 am413 am414 am415 am416 : Nat) : Bool := (zb_let (zb_vadd x5 (zb_kv (Nat.mul 10 x6))) (fun x10_80 => (zq_pX_move (fun r_81 fm0_openSet_82 fm0_state_83 fm0_votes_84 fm0_heard_85 fm0_names_86 fm0_name_87 fm0_slot_88 fm0_parts_89 fm0_trouble_90 fm0_troubled_91 fm0_happened_92 fm0_commitCount_93 fm0_first_94 fm0_waiting_95 fm0_sent_96 fm0_lostCount_97 am3121_100 am3122_103 am3123_106 am3124_109 am3125_112 am3126_115 am3127_118 am3128_121 am3129_124 am31210_127 am31211_130 am31212_133 am31213_136 am31214_139 am31215_142 am31216_145 => (zq_pX_move (fun r_146 fm0_openSet_147 fm0_state_148 fm0_votes_149 fm0_heard_150 fm0_names_151 fm0_name_152 fm0_slot_153 fm0_parts_154 fm0_trouble_155 fm0_troubled_156 fm0_happened_157 fm0_commitCount_158 fm0_first_159 fm0_waiting_160 fm0_sent_161 fm0_lostCount_162 am3381_165 am3382_168 am3383_171 am3384_174 am3385_177 am3386_180 am3387_183 am3388_186 am3389_189 am33810_192 am33811_195 am33812_198 am33813_201 am33814_204 am33815_207 am33816_210 => (zq_pX_move (fun r_211 fm0_openSet_212 fm0_state_213 fm0_votes_214 fm0_heard_215 fm0_names_216 fm0_name_217 fm0_slot_218 fm0_parts_219 fm0_trouble_220 fm0_troubled_221 fm0_happened_222 fm0_commitCount_223 fm0_first_224 fm0_waiting_225 fm0_sent_226 fm0_lostCount_227 am3661_230 am3662_233 am3663_236 am3664_239 am3665_242 am3666_245 am3667_248 am3668_251 am3669_254 am36610_257 am36611_260 am36612_263 am36613_266 am36614_269 am36615_272 am36616_275 => (zb_if3 (zb_le3 (zb_kv 4294957297) (zb_vsub (zb_vsub x10_80 5) 9999)) (zq_L_lawOf_390 kk x6 x7 x8 z0 x10_80 r_81 r_146 r_211 0 fm0_openSet_212 fm0_state_213 fm0_votes_214 fm0_heard_215 fm0_names_216 fm0_name_217 fm0_slot_218 fm0_parts_219 fm0_trouble_220 fm0_troubled_221 fm0_happened_222 fm0_commitCount_223 fm0_first_224 fm0_waiting_225 fm0_sent_226 fm0_lostCount_227 am3661_230 am3662_233 am3663_236 am3664_239 am3665_242 am3666_245 am3667_248 am3668_251 am3669_254 am36610_257 am36611_260 am36612_263 am36613_266 am36614_269 am36615_272 am36616_275) (zq_L_lawOf_390 kk x6 x7 x8 z0 x10_80 r_81 r_146 r_211 1 fm0_openSet_212 fm0_state_213 fm0_votes_214 fm0_heard_215 fm0_names_216 fm0_name_217 fm0_slot_218 fm0_parts_219 fm0_trouble_220 fm0_troubled_221 fm0_happened_222 fm0_commitCount_223 fm0_first_224 fm0_waiting_225 fm0_sent_226 fm0_lostCount_227 am3661_230 am3662_233 am3663_236 am3664_239 am3665_242 am3666_245 am3667_248 am3668_251 am3669_254 am36610_257 am36611_260 am36612_263 am36613_266 am36614_269 am36615_272 am36616_275))) fm0_openSet_147 fm0_state_148 fm0_votes_149 fm0_heard_150 fm0_names_151 fm0_name_152 fm0_slot_153 fm0_parts_154 fm0_trouble_155 fm0_troubled_156 fm0_happened_157 fm0_commitCount_158 fm0_first_159 fm0_waiting_160 fm0_sent_161 fm0_lostCount_162 am3381_165 am3382_168 am3383_171 am3384_174 am3385_177 am3386_180 am3387_183 am3388_186 am3389_189 am33810_192 am33811_195 am33812_198 am33813_201 am33814_204 am33815_207 am33816_210 x6 (Nat.add (Nat.add (Nat.mul 3 x6) 1) (Nat.mul 12 (Nat.add (Nat.mul 3 x6) 2))) 9999)) fm0_openSet_82 fm0_state_83 fm0_votes_84 fm0_heard_85 fm0_names_86 fm0_name_87 fm0_slot_88 fm0_parts_89 fm0_trouble_90 fm0_troubled_91 fm0_happened_92 fm0_commitCount_93 fm0_first_94 fm0_waiting_95 fm0_sent_96 fm0_lostCount_97 am3121_100 am3122_103 am3123_106 am3124_109 am3125_112 am3126_115 am3127_118 am3128_121 am3129_124 am31210_127 am31211_130 am31212_133 am31213_136 am31214_139 am31215_142 am31216_145 x6 (Nat.add (Nat.mul 3 x6) (Nat.mul 12 (Nat.add (Nat.mul 3 x6) 2))) 9999)) fm0_openSet fm0_state fm0_votes fm0_heard fm0_names fm0_name fm0_slot fm0_parts fm0_trouble fm0_troubled fm0_happened fm0_commitCount fm0_first fm0_waiting fm0_sent fm0_lostCount am41 am42 am43 am44 am45 am46 am47 am48 am49 am410 am411 am412 am413 am414 am415 am416 x6 (Nat.add (Nat.mul 3 x6) (Nat.mul 12 (Nat.add (Nat.mul 3 x6) 1))) 5)))
theorem zr_L_lawOf_281 {c : Nat} (hc : c ≤ 1023) {post : Int32 → St0 → Prop} {kk : Nat → Bool} {mc ms kc ks : Nat} {x5 x6 x7 x8 z0 fm0_openSet fm0_state fm0_votes fm0_heard fm0_names fm0_name fm0_slot fm0_parts fm0_trouble fm0_troubled fm0_happened fm0_commitCount fm0_first fm0_waiting fm0_sent fm0_lostCount am41 am42 am43 am44 am45 am46 am47 am48 am49 am410 am411 am412 am413 am414 am415 am416 : Nat} {X_x5 : Int32} (e_x5 : X_x5 = zb_dv c x5) {X_x6 : Int32} (e_x6 : X_x6 = nI x6) {X_x7 : Int32} (e_x7 : X_x7 = nI x7) {X_x8 : Int32} (e_x8 : X_x8 = nI x8) {X_z0 : Int32} (e_z0 : X_z0 = nI z0) (h : zq_L_lawOf_281 kk x5 x6 x7 x8 z0 fm0_openSet fm0_state fm0_votes fm0_heard fm0_names fm0_name fm0_slot fm0_parts fm0_trouble fm0_troubled fm0_happened fm0_commitCount fm0_first fm0_waiting fm0_sent fm0_lostCount am41 am42 am43 am44 am45 am46 am47 am48 am49 am410 am411 am412 am413 am414 am415 am416 = true) (hk : ∀ {r_ : Nat} {R_ : Int32}, R_ = nI r_ → kk r_  = true → post R_ ()) : wL_lawOf_281 post mc ms X_x5 X_x6 X_x7 X_x8 X_z0 kc ks (nI fm0_openSet) (nI fm0_state) (nI fm0_votes) (nI fm0_heard) (nI fm0_names) (nI fm0_name) (nI fm0_slot) (nI fm0_parts) (nI fm0_trouble) (nI fm0_troubled) (nI fm0_happened) (nI fm0_commitCount) (nI fm0_first) (nI fm0_waiting) (nI fm0_sent) (nI fm0_lostCount) (zb_va c am41) (zb_ka am42) (zb_ka am43) (zb_ka am44) (zb_ka am45) (zb_va c am46) (zb_va c am47) (zb_ka am48) (zb_ka am49) (zb_va c am410) (zb_ka am411) (zb_ka am412) (zb_ka am413) (zb_ka am414) (zb_ka am415) (zb_ka am416) := by
  subst e_x5
  subst e_x6
  subst e_x7
  subst e_x8
  subst e_z0
  unfold zq_L_lawOf_281 at h
  unfold wL_lawOf_281
  refine zb_let_v h (zb_vaddP rfl (zb_kvP (zb_mulP (rfl : (10 : Int32) = nI 10) rfl))) ?_
  intro h
  refine zr_pX_move hc rfl (zb_addP (zb_mulP (rfl : (3 : Int32) = nI 3) rfl) (zb_mulP (rfl : (12 : Int32) = nI 12) (zb_addP (zb_mulP (rfl : (3 : Int32) = nI 3) rfl) (rfl : (1 : Int32) = nI 1)))) (rfl : (5 : Int32) = nI 5) h ?_
  intro r_81 R_ eR_ fm0_openSet_82 fm0_state_83 fm0_votes_84 fm0_heard_85 fm0_names_86 fm0_name_87 fm0_slot_88 fm0_parts_89 fm0_trouble_90 fm0_troubled_91 fm0_happened_92 fm0_commitCount_93 fm0_first_94 fm0_waiting_95 fm0_sent_96 fm0_lostCount_97 am3121_100 am3122_103 am3123_106 am3124_109 am3125_112 am3126_115 am3127_118 am3128_121 am3129_124 am31210_127 am31211_130 am31212_133 am31213_136 am31214_139 am31215_142 am31216_145 h
  subst eR_
  refine zr_pX_move hc rfl (zb_addP (zb_mulP (rfl : (3 : Int32) = nI 3) rfl) (zb_mulP (rfl : (12 : Int32) = nI 12) (zb_addP (zb_mulP (rfl : (3 : Int32) = nI 3) rfl) (rfl : (2 : Int32) = nI 2)))) (rfl : (9999 : Int32) = nI 9999) h ?_
  intro r_146 R_ eR_ fm0_openSet_147 fm0_state_148 fm0_votes_149 fm0_heard_150 fm0_names_151 fm0_name_152 fm0_slot_153 fm0_parts_154 fm0_trouble_155 fm0_troubled_156 fm0_happened_157 fm0_commitCount_158 fm0_first_159 fm0_waiting_160 fm0_sent_161 fm0_lostCount_162 am3381_165 am3382_168 am3383_171 am3384_174 am3385_177 am3386_180 am3387_183 am3388_186 am3389_189 am33810_192 am33811_195 am33812_198 am33813_201 am33814_204 am33815_207 am33816_210 h
  subst eR_
  refine zr_pX_move hc rfl (zb_addP (zb_addP (zb_mulP (rfl : (3 : Int32) = nI 3) rfl) (rfl : (1 : Int32) = nI 1)) (zb_mulP (rfl : (12 : Int32) = nI 12) (zb_addP (zb_mulP (rfl : (3 : Int32) = nI 3) rfl) (rfl : (2 : Int32) = nI 2)))) (rfl : (9999 : Int32) = nI 9999) h ?_
  intro r_211 R_ eR_ fm0_openSet_212 fm0_state_213 fm0_votes_214 fm0_heard_215 fm0_names_216 fm0_name_217 fm0_slot_218 fm0_parts_219 fm0_trouble_220 fm0_troubled_221 fm0_happened_222 fm0_commitCount_223 fm0_first_224 fm0_waiting_225 fm0_sent_226 fm0_lostCount_227 am3661_230 am3662_233 am3663_236 am3664_239 am3665_242 am3666_245 am3667_248 am3668_251 am3669_254 am36610_257 am36611_260 am36612_263 am36613_266 am36614_269 am36615_272 am36616_275 h
  subst eR_
  refine zb_if3_ok (zb_le3P hc (zb_kvP zb_m9999) (zb_vsubP (zb_vsubP rfl (rfl : (5 : Int32) = nI 5)) (rfl : (9999 : Int32) = nI 9999))) h ?_ ?_
  · intro h
    exact zr_L_lawOf_390 hc rfl rfl rfl rfl rfl rfl rfl rfl (rfl : (0 : Int32) = nI 0) h hk
  · intro h
    exact zr_L_lawOf_390 hc rfl rfl rfl rfl rfl rfl rfl rfl (rfl : (1 : Int32) = nI 1) h hk
noncomputable def zq_L_lawOf_280 (kk : Nat → Bool) (x5 x6 x7 x8 fm0_openSet fm0_state fm0_votes fm0_heard fm0_names fm0_name fm0_slot fm0_parts fm0_trouble fm0_troubled fm0_happened fm0_commitCount fm0_first fm0_waiting fm0_sent fm0_lostCount am41 am42 am43 am44 am45 am46 am47 am48 am49 am410 am411 am412 am413 am414 am415 am416 : Nat) : Bool := (zq_L_lawOf_281 kk x5 x6 x7 x8 0 fm0_openSet fm0_state fm0_votes fm0_heard fm0_names fm0_name fm0_slot fm0_parts fm0_trouble fm0_troubled fm0_happened fm0_commitCount fm0_first fm0_waiting fm0_sent fm0_lostCount am41 am42 am43 am44 am45 am46 am47 am48 am49 am410 am411 am412 am413 am414 am415 am416)
theorem zr_L_lawOf_280 {c : Nat} (hc : c ≤ 1023) {post : Int32 → St0 → Prop} {kk : Nat → Bool} {mc ms kc ks : Nat} {x5 x6 x7 x8 fm0_openSet fm0_state fm0_votes fm0_heard fm0_names fm0_name fm0_slot fm0_parts fm0_trouble fm0_troubled fm0_happened fm0_commitCount fm0_first fm0_waiting fm0_sent fm0_lostCount am41 am42 am43 am44 am45 am46 am47 am48 am49 am410 am411 am412 am413 am414 am415 am416 : Nat} {X_x5 : Int32} (e_x5 : X_x5 = zb_dv c x5) {X_x6 : Int32} (e_x6 : X_x6 = nI x6) {X_x7 : Int32} (e_x7 : X_x7 = nI x7) {X_x8 : Int32} (e_x8 : X_x8 = nI x8) (h : zq_L_lawOf_280 kk x5 x6 x7 x8 fm0_openSet fm0_state fm0_votes fm0_heard fm0_names fm0_name fm0_slot fm0_parts fm0_trouble fm0_troubled fm0_happened fm0_commitCount fm0_first fm0_waiting fm0_sent fm0_lostCount am41 am42 am43 am44 am45 am46 am47 am48 am49 am410 am411 am412 am413 am414 am415 am416 = true) (hk : ∀ {r_ : Nat} {R_ : Int32}, R_ = nI r_ → kk r_  = true → post R_ ()) : wL_lawOf_280 post mc ms X_x5 X_x6 X_x7 X_x8 kc ks (nI fm0_openSet) (nI fm0_state) (nI fm0_votes) (nI fm0_heard) (nI fm0_names) (nI fm0_name) (nI fm0_slot) (nI fm0_parts) (nI fm0_trouble) (nI fm0_troubled) (nI fm0_happened) (nI fm0_commitCount) (nI fm0_first) (nI fm0_waiting) (nI fm0_sent) (nI fm0_lostCount) (zb_va c am41) (zb_ka am42) (zb_ka am43) (zb_ka am44) (zb_ka am45) (zb_va c am46) (zb_va c am47) (zb_ka am48) (zb_ka am49) (zb_va c am410) (zb_ka am411) (zb_ka am412) (zb_ka am413) (zb_ka am414) (zb_ka am415) (zb_ka am416) := by
  subst e_x5
  subst e_x6
  subst e_x7
  subst e_x8
  unfold zq_L_lawOf_280 at h
  unfold wL_lawOf_280
  exact zr_L_lawOf_281 hc rfl rfl rfl rfl (rfl : (0 : Int32) = nI 0) h hk
noncomputable def zq_L_lawOf_76 (kk : Nat → Bool) (kJ : Nat → Nat → Nat → Nat → Nat → Nat → Nat → Nat → Nat → Nat → Nat → Nat → Nat → Nat → Nat → Nat → Nat → Nat → Nat → Nat → Nat → Nat → Nat → Nat → Nat → Nat → Nat → Nat → Nat → Nat → Nat → Nat → Nat → Nat → Bool) (x5 x6 x7 x8 x10 : Nat) : Nat → Nat → Nat → Nat → Nat → Nat → Nat → Nat → Nat → Nat → Nat → Nat → Nat → Nat → Nat → Nat → Nat → Nat → Nat → Nat → Nat → Nat → Nat → Nat → Nat → Nat → Nat → Nat → Nat → Nat → Nat → Nat → Nat → Nat → Nat → Bool
  | 0 => fun _ _ _ _ _ _ _ _ _ _ _ _ _ _ _ _ _ _ _ _ _ _ _ _ _ _ _ _ _ _ _ _ _ _ => false
  | n + 1 => fun x9 x12 fm0_openSet fm0_state fm0_votes fm0_heard fm0_names fm0_name fm0_slot fm0_parts fm0_trouble fm0_troubled fm0_happened fm0_commitCount fm0_first fm0_waiting fm0_sent fm0_lostCount am491 am492 am493 am494 am495 am496 am497 am498 am499 am4910 am4911 am4912 am4913 am4914 am4915 am4916 => (zb_if (zb_le 3 x12) (zb_let (Nat.add x10 1) (fun x10_1266 => (kJ x9 x10_1266 fm0_openSet fm0_state fm0_votes fm0_heard fm0_names fm0_name fm0_slot fm0_parts fm0_trouble fm0_troubled fm0_happened fm0_commitCount fm0_first fm0_waiting fm0_sent fm0_lostCount am491 am492 am493 am494 am495 am496 am497 am498 am499 am4910 am4911 am4912 am4913 am4914 am4915 am4916))) (zq_pX_put (fun r_1267 fm0_openSet_1268 fm0_state_1269 fm0_votes_1270 fm0_heard_1271 fm0_names_1272 fm0_name_1273 fm0_slot_1274 fm0_parts_1275 fm0_trouble_1276 fm0_troubled_1277 fm0_happened_1278 fm0_commitCount_1279 fm0_first_1280 fm0_waiting_1281 fm0_sent_1282 fm0_lostCount_1283 am1041_1286 am1042_1289 am1043_1292 am1044_1295 am1045_1298 am1046_1301 am1047_1304 am1048_1307 am1049_1310 am10410_1313 am10411_1316 am10412_1319 am10413_1322 am10414_1325 am10415_1328 am10416_1331 => (zq_pX_get (fun r_1332 fm0_openSet_1333 fm0_state_1334 fm0_votes_1335 fm0_heard_1336 fm0_names_1337 fm0_name_1338 fm0_slot_1339 fm0_parts_1340 fm0_trouble_1341 fm0_troubled_1342 fm0_happened_1343 fm0_commitCount_1344 fm0_first_1345 fm0_waiting_1346 fm0_sent_1347 fm0_lostCount_1348 am1201_1351 am1202_1354 am1203_1357 am1204_1360 am1205_1363 am1206_1366 am1207_1369 am1208_1372 am1209_1375 am12010_1378 am12011_1381 am12012_1384 am12013_1387 am12014_1390 am12015_1393 am12016_1396 => (zb_if (zb_eq x9 0) (zb_let (Nat.add x12 1) (fun x12_1398 => (zq_L_lawOf_76 kk kJ x5 x6 x7 x8 x10 n 0 x12_1398 fm0_openSet_1333 fm0_state_1334 fm0_votes_1335 fm0_heard_1336 fm0_names_1337 fm0_name_1338 fm0_slot_1339 fm0_parts_1340 fm0_trouble_1341 fm0_troubled_1342 fm0_happened_1343 fm0_commitCount_1344 fm0_first_1345 fm0_waiting_1346 fm0_sent_1347 fm0_lostCount_1348 am1201_1351 am1202_1354 am1203_1357 am1204_1360 am1205_1363 am1206_1366 am1207_1369 am1208_1372 am1209_1375 am12010_1378 am12011_1381 am12012_1384 am12013_1387 am12014_1390 am12015_1393 am12016_1396))) (zb_if3 (zb_eq3 r_1267 (zb_kv 0)) (zb_if3 (zb_eq3 r_1332 (zb_vadd (zb_vadd x5 (zb_kv (Nat.mul 10 x10))) (zb_kv x12))) (zb_let (Nat.add x12 1) (fun x12_1403 => (zq_L_lawOf_76 kk kJ x5 x6 x7 x8 x10 n 1 x12_1403 fm0_openSet_1333 fm0_state_1334 fm0_votes_1335 fm0_heard_1336 fm0_names_1337 fm0_name_1338 fm0_slot_1339 fm0_parts_1340 fm0_trouble_1341 fm0_troubled_1342 fm0_happened_1343 fm0_commitCount_1344 fm0_first_1345 fm0_waiting_1346 fm0_sent_1347 fm0_lostCount_1348 am1201_1351 am1202_1354 am1203_1357 am1204_1360 am1205_1363 am1206_1366 am1207_1369 am1208_1372 am1209_1375 am12010_1378 am12011_1381 am12012_1384 am12013_1387 am12014_1390 am12015_1393 am12016_1396))) (zb_let (Nat.add x12 1) (fun x12_1402 => (zq_L_lawOf_76 kk kJ x5 x6 x7 x8 x10 n 0 x12_1402 fm0_openSet_1333 fm0_state_1334 fm0_votes_1335 fm0_heard_1336 fm0_names_1337 fm0_name_1338 fm0_slot_1339 fm0_parts_1340 fm0_trouble_1341 fm0_troubled_1342 fm0_happened_1343 fm0_commitCount_1344 fm0_first_1345 fm0_waiting_1346 fm0_sent_1347 fm0_lostCount_1348 am1201_1351 am1202_1354 am1203_1357 am1204_1360 am1205_1363 am1206_1366 am1207_1369 am1208_1372 am1209_1375 am12010_1378 am12011_1381 am12012_1384 am12013_1387 am12014_1390 am12015_1393 am12016_1396)))) (zb_let (Nat.add x12 1) (fun x12_1400 => (zq_L_lawOf_76 kk kJ x5 x6 x7 x8 x10 n 0 x12_1400 fm0_openSet_1333 fm0_state_1334 fm0_votes_1335 fm0_heard_1336 fm0_names_1337 fm0_name_1338 fm0_slot_1339 fm0_parts_1340 fm0_trouble_1341 fm0_troubled_1342 fm0_happened_1343 fm0_commitCount_1344 fm0_first_1345 fm0_waiting_1346 fm0_sent_1347 fm0_lostCount_1348 am1201_1351 am1202_1354 am1203_1357 am1204_1360 am1205_1363 am1206_1366 am1207_1369 am1208_1372 am1209_1375 am12010_1378 am12011_1381 am12012_1384 am12013_1387 am12014_1390 am12015_1393 am12016_1396)))))) fm0_openSet_1268 fm0_state_1269 fm0_votes_1270 fm0_heard_1271 fm0_names_1272 fm0_name_1273 fm0_slot_1274 fm0_parts_1275 fm0_trouble_1276 fm0_troubled_1277 fm0_happened_1278 fm0_commitCount_1279 fm0_first_1280 fm0_waiting_1281 fm0_sent_1282 fm0_lostCount_1283 am1041_1286 am1042_1289 am1043_1292 am1044_1295 am1045_1298 am1046_1301 am1047_1304 am1048_1307 am1049_1310 am10410_1313 am10411_1316 am10412_1319 am10413_1322 am10414_1325 am10415_1328 am10416_1331 x10 (Nat.add (Nat.mul 3 x10) x12))) fm0_openSet fm0_state fm0_votes fm0_heard fm0_names fm0_name fm0_slot fm0_parts fm0_trouble fm0_troubled fm0_happened fm0_commitCount fm0_first fm0_waiting fm0_sent fm0_lostCount am491 am492 am493 am494 am495 am496 am497 am498 am499 am4910 am4911 am4912 am4913 am4914 am4915 am4916 x10 (Nat.add (Nat.mul 3 x10) x12) (zb_vadd (zb_vadd x5 (zb_kv (Nat.mul 10 x10))) (zb_kv x12))))
theorem zr_L_lawOf_76 {c : Nat} (hc : c ≤ 1023) {post : Int32 → St0 → Prop} {kk : Nat → Bool} {J : Int32 → Int32 → Int32 → Int32 → Int32 → Int32 → Int32 → Int32 → Int32 → Int32 → Int32 → Int32 → Int32 → Int32 → Int32 → Int32 → Int32 → Int32 → (Nat → Int32) → (Nat → Int32) → (Nat → Int32) → (Nat → Int32) → (Nat → Int32) → (Nat → Int32) → (Nat → Int32) → (Nat → Int32) → (Nat → Int32) → (Nat → Int32) → (Nat → Int32) → (Nat → Int32) → (Nat → Int32) → (Nat → Int32) → (Nat → Int32) → (Nat → Int32) → Prop} {kJ : Nat → Nat → Nat → Nat → Nat → Nat → Nat → Nat → Nat → Nat → Nat → Nat → Nat → Nat → Nat → Nat → Nat → Nat → Nat → Nat → Nat → Nat → Nat → Nat → Nat → Nat → Nat → Nat → Nat → Nat → Nat → Nat → Nat → Nat → Bool} {mc ms kc ks : Nat} (hk : ∀ {r_ : Nat} {R_ : Int32}, R_ = nI r_ → kk r_  = true → post R_ ()) (hJ : ∀ {x9_ x10_ fm0_openSet_ fm0_state_ fm0_votes_ fm0_heard_ fm0_names_ fm0_name_ fm0_slot_ fm0_parts_ fm0_trouble_ fm0_troubled_ fm0_happened_ fm0_commitCount_ fm0_first_ fm0_waiting_ fm0_sent_ fm0_lostCount_ am41_ am42_ am43_ am44_ am45_ am46_ am47_ am48_ am49_ am410_ am411_ am412_ am413_ am414_ am415_ am416_ : Nat}, kJ x9_ x10_ fm0_openSet_ fm0_state_ fm0_votes_ fm0_heard_ fm0_names_ fm0_name_ fm0_slot_ fm0_parts_ fm0_trouble_ fm0_troubled_ fm0_happened_ fm0_commitCount_ fm0_first_ fm0_waiting_ fm0_sent_ fm0_lostCount_ am41_ am42_ am43_ am44_ am45_ am46_ am47_ am48_ am49_ am410_ am411_ am412_ am413_ am414_ am415_ am416_ = true → J (nI x9_) (nI x10_) (nI fm0_openSet_) (nI fm0_state_) (nI fm0_votes_) (nI fm0_heard_) (nI fm0_names_) (nI fm0_name_) (nI fm0_slot_) (nI fm0_parts_) (nI fm0_trouble_) (nI fm0_troubled_) (nI fm0_happened_) (nI fm0_commitCount_) (nI fm0_first_) (nI fm0_waiting_) (nI fm0_sent_) (nI fm0_lostCount_) (zb_va c am41_) (zb_ka am42_) (zb_ka am43_) (zb_ka am44_) (zb_ka am45_) (zb_va c am46_) (zb_va c am47_) (zb_ka am48_) (zb_ka am49_) (zb_va c am410_) (zb_ka am411_) (zb_ka am412_) (zb_ka am413_) (zb_ka am414_) (zb_ka am415_) (zb_ka am416_)) {x5 x6 x7 x8 x10 : Nat} {X_x5 : Int32} (e_x5 : X_x5 = zb_dv c x5) {X_x6 : Int32} (e_x6 : X_x6 = nI x6) {X_x7 : Int32} (e_x7 : X_x7 = nI x7) {X_x8 : Int32} (e_x8 : X_x8 = nI x8) {X_x10 : Int32} (e_x10 : X_x10 = nI x10) : ∀ (n : Nat) {x9 x12 fm0_openSet fm0_state fm0_votes fm0_heard fm0_names fm0_name fm0_slot fm0_parts fm0_trouble fm0_troubled fm0_happened fm0_commitCount fm0_first fm0_waiting fm0_sent fm0_lostCount am491 am492 am493 am494 am495 am496 am497 am498 am499 am4910 am4911 am4912 am4913 am4914 am4915 am4916 : Nat} {X_x9 X_x12 : Int32}, X_x9 = nI x9 → X_x12 = nI x12 → zq_L_lawOf_76 kk kJ x5 x6 x7 x8 x10 n x9 x12 fm0_openSet fm0_state fm0_votes fm0_heard fm0_names fm0_name fm0_slot fm0_parts fm0_trouble fm0_troubled fm0_happened fm0_commitCount fm0_first fm0_waiting fm0_sent fm0_lostCount am491 am492 am493 am494 am495 am496 am497 am498 am499 am4910 am4911 am4912 am4913 am4914 am4915 am4916 = true → wL_lawOf_76 post mc ms J X_x5 X_x6 X_x7 X_x8 X_x10 kc ks n X_x9 X_x12 (nI fm0_openSet) (nI fm0_state) (nI fm0_votes) (nI fm0_heard) (nI fm0_names) (nI fm0_name) (nI fm0_slot) (nI fm0_parts) (nI fm0_trouble) (nI fm0_troubled) (nI fm0_happened) (nI fm0_commitCount) (nI fm0_first) (nI fm0_waiting) (nI fm0_sent) (nI fm0_lostCount) (zb_va c am491) (zb_ka am492) (zb_ka am493) (zb_ka am494) (zb_ka am495) (zb_va c am496) (zb_va c am497) (zb_ka am498) (zb_ka am499) (zb_va c am4910) (zb_ka am4911) (zb_ka am4912) (zb_ka am4913) (zb_ka am4914) (zb_ka am4915) (zb_ka am4916) := by
  subst e_x5
  subst e_x6
  subst e_x7
  subst e_x8
  subst e_x10
  intro n
  induction n with
  | zero =>
    intro x9 x12 fm0_openSet fm0_state fm0_votes fm0_heard fm0_names fm0_name fm0_slot fm0_parts fm0_trouble fm0_troubled fm0_happened fm0_commitCount fm0_first fm0_waiting fm0_sent fm0_lostCount am491 am492 am493 am494 am495 am496 am497 am498 am499 am4910 am4911 am4912 am4913 am4914 am4915 am4916 X_x9 X_x12 e_x9 e_x12 h
    exact absurd (show false = true from h) Bool.false_ne_true
  | succ n ih =>
    intro x9 x12 fm0_openSet fm0_state fm0_votes fm0_heard fm0_names fm0_name fm0_slot fm0_parts fm0_trouble fm0_troubled fm0_happened fm0_commitCount fm0_first fm0_waiting fm0_sent fm0_lostCount am491 am492 am493 am494 am495 am496 am497 am498 am499 am4910 am4911 am4912 am4913 am4914 am4915 am4916 X_x9 X_x12 e_x9 e_x12 h
    subst e_x9
    subst e_x12
    refine zb_if_ok (zb_leP (rfl : (3 : Int32) = nI 3) rfl) h ?_ ?_
    · intro h
      refine zb_let_k h (zb_addP rfl (rfl : (1 : Int32) = nI 1)) ?_
      intro h
      exact hJ h
    · intro h
      refine zr_pX_put hc rfl (zb_addP (zb_mulP (rfl : (3 : Int32) = nI 3) rfl) rfl) (zb_vaddP (zb_vaddP rfl (zb_kvP (zb_mulP (rfl : (10 : Int32) = nI 10) rfl))) (zb_kvP rfl)) h ?_
      intro r_1267 R_ eR_ fm0_openSet_1268 fm0_state_1269 fm0_votes_1270 fm0_heard_1271 fm0_names_1272 fm0_name_1273 fm0_slot_1274 fm0_parts_1275 fm0_trouble_1276 fm0_troubled_1277 fm0_happened_1278 fm0_commitCount_1279 fm0_first_1280 fm0_waiting_1281 fm0_sent_1282 fm0_lostCount_1283 am1041_1286 am1042_1289 am1043_1292 am1044_1295 am1045_1298 am1046_1301 am1047_1304 am1048_1307 am1049_1310 am10410_1313 am10411_1316 am10412_1319 am10413_1322 am10414_1325 am10415_1328 am10416_1331 h
      subst eR_
      refine zr_pX_get hc rfl (zb_addP (zb_mulP (rfl : (3 : Int32) = nI 3) rfl) rfl) h ?_
      intro r_1332 R_ eR_ fm0_openSet_1333 fm0_state_1334 fm0_votes_1335 fm0_heard_1336 fm0_names_1337 fm0_name_1338 fm0_slot_1339 fm0_parts_1340 fm0_trouble_1341 fm0_troubled_1342 fm0_happened_1343 fm0_commitCount_1344 fm0_first_1345 fm0_waiting_1346 fm0_sent_1347 fm0_lostCount_1348 am1201_1351 am1202_1354 am1203_1357 am1204_1360 am1205_1363 am1206_1366 am1207_1369 am1208_1372 am1209_1375 am12010_1378 am12011_1381 am12012_1384 am12013_1387 am12014_1390 am12015_1393 am12016_1396 h
      subst eR_
      refine zb_if_ok (zb_eqP rfl (rfl : (0 : Int32) = nI 0)) h ?_ ?_
      · intro h
        refine zb_let_k h (zb_addP rfl (rfl : (1 : Int32) = nI 1)) ?_
        intro h
        exact ih (rfl : (0 : Int32) = nI 0) rfl h
      · intro h
        refine zb_if3_ok (zb_eq3P hc rfl (zb_kvP (rfl : (0 : Int32) = nI 0))) h ?_ ?_
        · intro h
          refine zb_if3_ok (zb_eq3P hc rfl (zb_vaddP (zb_vaddP rfl (zb_kvP (zb_mulP (rfl : (10 : Int32) = nI 10) rfl))) (zb_kvP rfl))) h ?_ ?_
          · intro h
            refine zb_let_k h (zb_addP rfl (rfl : (1 : Int32) = nI 1)) ?_
            intro h
            exact ih (rfl : (1 : Int32) = nI 1) rfl h
          · intro h
            refine zb_let_k h (zb_addP rfl (rfl : (1 : Int32) = nI 1)) ?_
            intro h
            exact ih (rfl : (0 : Int32) = nI 0) rfl h
        · intro h
          refine zb_let_k h (zb_addP rfl (rfl : (1 : Int32) = nI 1)) ?_
          intro h
          exact ih (rfl : (0 : Int32) = nI 0) rfl h
noncomputable def zq_L_lawOf_41 (kk : Nat → Bool) (x5 x6 x7 x8 : Nat) : Nat → Nat → Nat → Nat → Nat → Nat → Nat → Nat → Nat → Nat → Nat → Nat → Nat → Nat → Nat → Nat → Nat → Nat → Nat → Nat → Nat → Nat → Nat → Nat → Nat → Nat → Nat → Nat → Nat → Nat → Nat → Nat → Nat → Nat → Nat → Bool
  | 0 => fun _ _ _ _ _ _ _ _ _ _ _ _ _ _ _ _ _ _ _ _ _ _ _ _ _ _ _ _ _ _ _ _ _ _ => false
  | n + 1 => fun x9 x10 fm0_openSet fm0_state fm0_votes fm0_heard fm0_names fm0_name fm0_slot fm0_parts fm0_trouble fm0_troubled fm0_happened fm0_commitCount fm0_first fm0_waiting fm0_sent fm0_lostCount am41 am42 am43 am44 am45 am46 am47 am48 am49 am410 am411 am412 am413 am414 am415 am416 => (zb_if (zb_le 4 x10) (zb_if (zb_eq x9 0) (zq_L_lawOf_280 kk x5 x6 x7 x8 fm0_openSet fm0_state fm0_votes fm0_heard fm0_names fm0_name fm0_slot fm0_parts fm0_trouble fm0_troubled fm0_happened fm0_commitCount fm0_first fm0_waiting fm0_sent fm0_lostCount am41 am42 am43 am44 am45 am46 am47 am48 am49 am410 am411 am412 am413 am414 am415 am416) (zq_pX_begin (fun r_925 fm0_openSet_926 fm0_state_927 fm0_votes_928 fm0_heard_929 fm0_names_930 fm0_name_931 fm0_slot_932 fm0_parts_933 fm0_trouble_934 fm0_troubled_935 fm0_happened_936 fm0_commitCount_937 fm0_first_938 fm0_waiting_939 fm0_sent_940 fm0_lostCount_941 am1771_944 am1772_947 am1773_950 am1774_953 am1775_956 am1776_959 am1777_962 am1778_965 am1779_968 am17710_971 am17711_974 am17712_977 am17713_980 am17714_983 am17715_986 am17716_989 => (zb_if (zb_eq r_925 4294767296) (zq_pX_get (fun r_991 fm0_openSet_992 fm0_state_993 fm0_votes_994 fm0_heard_995 fm0_names_996 fm0_name_997 fm0_slot_998 fm0_parts_999 fm0_trouble_1000 fm0_troubled_1001 fm0_happened_1002 fm0_commitCount_1003 fm0_first_1004 fm0_waiting_1005 fm0_sent_1006 fm0_lostCount_1007 am1891_1010 am1892_1013 am1893_1016 am1894_1019 am1895_1022 am1896_1025 am1897_1028 am1898_1031 am1899_1034 am18910_1037 am18911_1040 am18912_1043 am18913_1046 am18914_1049 am18915_1052 am18916_1055 => (zb_if3 (zb_eq3 r_991 (zb_kv 4294667296)) (zq_pX_put (fun r_1057 fm0_openSet_1058 fm0_state_1059 fm0_votes_1060 fm0_heard_1061 fm0_names_1062 fm0_name_1063 fm0_slot_1064 fm0_parts_1065 fm0_trouble_1066 fm0_troubled_1067 fm0_happened_1068 fm0_commitCount_1069 fm0_first_1070 fm0_waiting_1071 fm0_sent_1072 fm0_lostCount_1073 am2021_1076 am2022_1079 am2023_1082 am2024_1085 am2025_1088 am2026_1091 am2027_1094 am2028_1097 am2029_1100 am20210_1103 am20211_1106 am20212_1109 am20213_1112 am20214_1115 am20215_1118 am20216_1121 => (zb_if3 (zb_eq3 r_1057 (zb_kv 4294667296)) (zq_pX_move (fun r_1123 fm0_openSet_1124 fm0_state_1125 fm0_votes_1126 fm0_heard_1127 fm0_names_1128 fm0_name_1129 fm0_slot_1130 fm0_parts_1131 fm0_trouble_1132 fm0_troubled_1133 fm0_happened_1134 fm0_commitCount_1135 fm0_first_1136 fm0_waiting_1137 fm0_sent_1138 fm0_lostCount_1139 am2151_1142 am2152_1145 am2153_1148 am2154_1151 am2155_1154 am2156_1157 am2157_1160 am2158_1163 am2159_1166 am21510_1169 am21511_1172 am21512_1175 am21513_1178 am21514_1181 am21515_1184 am21516_1187 => (zb_if3 (zb_eq3 r_1123 (zb_kv 4294667296)) (zq_pX_total (fun r_1189 => (zb_if3 (zb_eq3 r_1189 (zb_kv 0)) (zq_pX_keys (fun r_1191 => (zb_if (zb_eq r_1191 448) (zq_pX_written (fun r_1193 => (zb_if (zb_eq r_1193 448) (zq_pX_holder (fun r_1195 => (zb_if (zb_eq r_1195 3) (zq_pX_open (fun r_1197 => (zb_if (zb_eq r_1197 15) (zq_L_lawOf_281 kk x5 x6 x7 x8 1 fm0_openSet_1124 fm0_state_1125 fm0_votes_1126 fm0_heard_1127 fm0_names_1128 fm0_name_1129 fm0_slot_1130 fm0_parts_1131 fm0_trouble_1132 fm0_troubled_1133 fm0_happened_1134 fm0_commitCount_1135 fm0_first_1136 fm0_waiting_1137 fm0_sent_1138 fm0_lostCount_1139 am2151_1142 am2152_1145 am2153_1148 am2154_1151 am2155_1154 am2156_1157 am2157_1160 am2158_1163 am2159_1166 am21510_1169 am21511_1172 am21512_1175 am21513_1178 am21514_1181 am21515_1184 am21516_1187) (zq_L_lawOf_280 kk x5 x6 x7 x8 fm0_openSet_1124 fm0_state_1125 fm0_votes_1126 fm0_heard_1127 fm0_names_1128 fm0_name_1129 fm0_slot_1130 fm0_parts_1131 fm0_trouble_1132 fm0_troubled_1133 fm0_happened_1134 fm0_commitCount_1135 fm0_first_1136 fm0_waiting_1137 fm0_sent_1138 fm0_lostCount_1139 am2151_1142 am2152_1145 am2153_1148 am2154_1151 am2155_1154 am2156_1157 am2157_1160 am2158_1163 am2159_1166 am21510_1169 am21511_1172 am21512_1175 am21513_1178 am21514_1181 am21515_1184 am21516_1187))) fm0_openSet_1124 fm0_state_1125 fm0_votes_1126 fm0_heard_1127 fm0_names_1128 fm0_name_1129 fm0_slot_1130 fm0_parts_1131 fm0_trouble_1132 fm0_troubled_1133 fm0_happened_1134 fm0_commitCount_1135 fm0_first_1136 fm0_waiting_1137 fm0_sent_1138 fm0_lostCount_1139 am2151_1142 am2152_1145 am2153_1148 am2154_1151 am2155_1154 am2156_1157 am2157_1160 am2158_1163 am2159_1166 am21510_1169 am21511_1172 am21512_1175 am21513_1178 am21514_1181 am21515_1184 am21516_1187) (zq_L_lawOf_280 kk x5 x6 x7 x8 fm0_openSet_1124 fm0_state_1125 fm0_votes_1126 fm0_heard_1127 fm0_names_1128 fm0_name_1129 fm0_slot_1130 fm0_parts_1131 fm0_trouble_1132 fm0_troubled_1133 fm0_happened_1134 fm0_commitCount_1135 fm0_first_1136 fm0_waiting_1137 fm0_sent_1138 fm0_lostCount_1139 am2151_1142 am2152_1145 am2153_1148 am2154_1151 am2155_1154 am2156_1157 am2157_1160 am2158_1163 am2159_1166 am21510_1169 am21511_1172 am21512_1175 am21513_1178 am21514_1181 am21515_1184 am21516_1187))) fm0_openSet_1124 fm0_state_1125 fm0_votes_1126 fm0_heard_1127 fm0_names_1128 fm0_name_1129 fm0_slot_1130 fm0_parts_1131 fm0_trouble_1132 fm0_troubled_1133 fm0_happened_1134 fm0_commitCount_1135 fm0_first_1136 fm0_waiting_1137 fm0_sent_1138 fm0_lostCount_1139 am2151_1142 am2152_1145 am2153_1148 am2154_1151 am2155_1154 am2156_1157 am2157_1160 am2158_1163 am2159_1166 am21510_1169 am21511_1172 am21512_1175 am21513_1178 am21514_1181 am21515_1184 am21516_1187 11) (zq_L_lawOf_280 kk x5 x6 x7 x8 fm0_openSet_1124 fm0_state_1125 fm0_votes_1126 fm0_heard_1127 fm0_names_1128 fm0_name_1129 fm0_slot_1130 fm0_parts_1131 fm0_trouble_1132 fm0_troubled_1133 fm0_happened_1134 fm0_commitCount_1135 fm0_first_1136 fm0_waiting_1137 fm0_sent_1138 fm0_lostCount_1139 am2151_1142 am2152_1145 am2153_1148 am2154_1151 am2155_1154 am2156_1157 am2157_1160 am2158_1163 am2159_1166 am21510_1169 am21511_1172 am21512_1175 am21513_1178 am21514_1181 am21515_1184 am21516_1187))) fm0_openSet_1124 fm0_state_1125 fm0_votes_1126 fm0_heard_1127 fm0_names_1128 fm0_name_1129 fm0_slot_1130 fm0_parts_1131 fm0_trouble_1132 fm0_troubled_1133 fm0_happened_1134 fm0_commitCount_1135 fm0_first_1136 fm0_waiting_1137 fm0_sent_1138 fm0_lostCount_1139 am2151_1142 am2152_1145 am2153_1148 am2154_1151 am2155_1154 am2156_1157 am2157_1160 am2158_1163 am2159_1166 am21510_1169 am21511_1172 am21512_1175 am21513_1178 am21514_1181 am21515_1184 am21516_1187 2) (zq_L_lawOf_280 kk x5 x6 x7 x8 fm0_openSet_1124 fm0_state_1125 fm0_votes_1126 fm0_heard_1127 fm0_names_1128 fm0_name_1129 fm0_slot_1130 fm0_parts_1131 fm0_trouble_1132 fm0_troubled_1133 fm0_happened_1134 fm0_commitCount_1135 fm0_first_1136 fm0_waiting_1137 fm0_sent_1138 fm0_lostCount_1139 am2151_1142 am2152_1145 am2153_1148 am2154_1151 am2155_1154 am2156_1157 am2157_1160 am2158_1163 am2159_1166 am21510_1169 am21511_1172 am21512_1175 am21513_1178 am21514_1181 am21515_1184 am21516_1187))) fm0_openSet_1124 fm0_state_1125 fm0_votes_1126 fm0_heard_1127 fm0_names_1128 fm0_name_1129 fm0_slot_1130 fm0_parts_1131 fm0_trouble_1132 fm0_troubled_1133 fm0_happened_1134 fm0_commitCount_1135 fm0_first_1136 fm0_waiting_1137 fm0_sent_1138 fm0_lostCount_1139 am2151_1142 am2152_1145 am2153_1148 am2154_1151 am2155_1154 am2156_1157 am2157_1160 am2158_1163 am2159_1166 am21510_1169 am21511_1172 am21512_1175 am21513_1178 am21514_1181 am21515_1184 am21516_1187 2) (zq_L_lawOf_280 kk x5 x6 x7 x8 fm0_openSet_1124 fm0_state_1125 fm0_votes_1126 fm0_heard_1127 fm0_names_1128 fm0_name_1129 fm0_slot_1130 fm0_parts_1131 fm0_trouble_1132 fm0_troubled_1133 fm0_happened_1134 fm0_commitCount_1135 fm0_first_1136 fm0_waiting_1137 fm0_sent_1138 fm0_lostCount_1139 am2151_1142 am2152_1145 am2153_1148 am2154_1151 am2155_1154 am2156_1157 am2157_1160 am2158_1163 am2159_1166 am21510_1169 am21511_1172 am21512_1175 am21513_1178 am21514_1181 am21515_1184 am21516_1187))) fm0_openSet_1124 fm0_state_1125 fm0_votes_1126 fm0_heard_1127 fm0_names_1128 fm0_name_1129 fm0_slot_1130 fm0_parts_1131 fm0_trouble_1132 fm0_troubled_1133 fm0_happened_1134 fm0_commitCount_1135 fm0_first_1136 fm0_waiting_1137 fm0_sent_1138 fm0_lostCount_1139 am2151_1142 am2152_1145 am2153_1148 am2154_1151 am2155_1154 am2156_1157 am2157_1160 am2158_1163 am2159_1166 am21510_1169 am21511_1172 am21512_1175 am21513_1178 am21514_1181 am21515_1184 am21516_1187) (zq_L_lawOf_280 kk x5 x6 x7 x8 fm0_openSet_1124 fm0_state_1125 fm0_votes_1126 fm0_heard_1127 fm0_names_1128 fm0_name_1129 fm0_slot_1130 fm0_parts_1131 fm0_trouble_1132 fm0_troubled_1133 fm0_happened_1134 fm0_commitCount_1135 fm0_first_1136 fm0_waiting_1137 fm0_sent_1138 fm0_lostCount_1139 am2151_1142 am2152_1145 am2153_1148 am2154_1151 am2155_1154 am2156_1157 am2157_1160 am2158_1163 am2159_1166 am21510_1169 am21511_1172 am21512_1175 am21513_1178 am21514_1181 am21515_1184 am21516_1187))) fm0_openSet_1058 fm0_state_1059 fm0_votes_1060 fm0_heard_1061 fm0_names_1062 fm0_name_1063 fm0_slot_1064 fm0_parts_1065 fm0_trouble_1066 fm0_troubled_1067 fm0_happened_1068 fm0_commitCount_1069 fm0_first_1070 fm0_waiting_1071 fm0_sent_1072 fm0_lostCount_1073 am2021_1076 am2022_1079 am2023_1082 am2024_1085 am2025_1088 am2026_1091 am2027_1094 am2028_1097 am2029_1100 am20210_1103 am20211_1106 am20212_1109 am20213_1112 am20214_1115 am20215_1118 am20216_1121 1 3 0) (zq_L_lawOf_280 kk x5 x6 x7 x8 fm0_openSet_1058 fm0_state_1059 fm0_votes_1060 fm0_heard_1061 fm0_names_1062 fm0_name_1063 fm0_slot_1064 fm0_parts_1065 fm0_trouble_1066 fm0_troubled_1067 fm0_happened_1068 fm0_commitCount_1069 fm0_first_1070 fm0_waiting_1071 fm0_sent_1072 fm0_lostCount_1073 am2021_1076 am2022_1079 am2023_1082 am2024_1085 am2025_1088 am2026_1091 am2027_1094 am2028_1097 am2029_1100 am20210_1103 am20211_1106 am20212_1109 am20213_1112 am20214_1115 am20215_1118 am20216_1121))) fm0_openSet_992 fm0_state_993 fm0_votes_994 fm0_heard_995 fm0_names_996 fm0_name_997 fm0_slot_998 fm0_parts_999 fm0_trouble_1000 fm0_troubled_1001 fm0_happened_1002 fm0_commitCount_1003 fm0_first_1004 fm0_waiting_1005 fm0_sent_1006 fm0_lostCount_1007 am1891_1010 am1892_1013 am1893_1016 am1894_1019 am1895_1022 am1896_1025 am1897_1028 am1898_1031 am1899_1034 am18910_1037 am18911_1040 am18912_1043 am18913_1046 am18914_1049 am18915_1052 am18916_1055 3 0 (zb_kv 1)) (zq_L_lawOf_280 kk x5 x6 x7 x8 fm0_openSet_992 fm0_state_993 fm0_votes_994 fm0_heard_995 fm0_names_996 fm0_name_997 fm0_slot_998 fm0_parts_999 fm0_trouble_1000 fm0_troubled_1001 fm0_happened_1002 fm0_commitCount_1003 fm0_first_1004 fm0_waiting_1005 fm0_sent_1006 fm0_lostCount_1007 am1891_1010 am1892_1013 am1893_1016 am1894_1019 am1895_1022 am1896_1025 am1897_1028 am1898_1031 am1899_1034 am18910_1037 am18911_1040 am18912_1043 am18913_1046 am18914_1049 am18915_1052 am18916_1055))) fm0_openSet_926 fm0_state_927 fm0_votes_928 fm0_heard_929 fm0_names_930 fm0_name_931 fm0_slot_932 fm0_parts_933 fm0_trouble_934 fm0_troubled_935 fm0_happened_936 fm0_commitCount_937 fm0_first_938 fm0_waiting_939 fm0_sent_940 fm0_lostCount_941 am1771_944 am1772_947 am1773_950 am1774_953 am1775_956 am1776_959 am1777_962 am1778_965 am1779_968 am17710_971 am17711_974 am17712_977 am17713_980 am17714_983 am17715_986 am17716_989 0 3) (zq_L_lawOf_280 kk x5 x6 x7 x8 fm0_openSet_926 fm0_state_927 fm0_votes_928 fm0_heard_929 fm0_names_930 fm0_name_931 fm0_slot_932 fm0_parts_933 fm0_trouble_934 fm0_troubled_935 fm0_happened_936 fm0_commitCount_937 fm0_first_938 fm0_waiting_939 fm0_sent_940 fm0_lostCount_941 am1771_944 am1772_947 am1773_950 am1774_953 am1775_956 am1776_959 am1777_962 am1778_965 am1779_968 am17710_971 am17711_974 am17712_977 am17713_980 am17714_983 am17715_986 am17716_989))) fm0_openSet fm0_state fm0_votes fm0_heard fm0_names fm0_name fm0_slot fm0_parts fm0_trouble fm0_troubled fm0_happened fm0_commitCount fm0_first fm0_waiting fm0_sent fm0_lostCount am41 am42 am43 am44 am45 am46 am47 am48 am49 am410 am411 am412 am413 am414 am415 am416)) (zq_pX_begin (fun r_1199 fm0_openSet_1200 fm0_state_1201 fm0_votes_1202 fm0_heard_1203 fm0_names_1204 fm0_name_1205 fm0_slot_1206 fm0_parts_1207 fm0_trouble_1208 fm0_troubled_1209 fm0_happened_1210 fm0_commitCount_1211 fm0_first_1212 fm0_waiting_1213 fm0_sent_1214 fm0_lostCount_1215 am491_1218 am492_1221 am493_1224 am494_1227 am495_1230 am496_1233 am497_1236 am498_1239 am499_1242 am4910_1245 am4911_1248 am4912_1251 am4913_1254 am4914_1257 am4915_1260 am4916_1263 => (zb_if (zb_eq x9 0) (zq_L_lawOf_76 kk (zq_L_lawOf_41 kk x5 x6 x7 x8 n) x5 x6 x7 x8 x10 70 0 0 fm0_openSet_1200 fm0_state_1201 fm0_votes_1202 fm0_heard_1203 fm0_names_1204 fm0_name_1205 fm0_slot_1206 fm0_parts_1207 fm0_trouble_1208 fm0_troubled_1209 fm0_happened_1210 fm0_commitCount_1211 fm0_first_1212 fm0_waiting_1213 fm0_sent_1214 fm0_lostCount_1215 am491_1218 am492_1221 am493_1224 am494_1227 am495_1230 am496_1233 am497_1236 am498_1239 am499_1242 am4910_1245 am4911_1248 am4912_1251 am4913_1254 am4914_1257 am4915_1260 am4916_1263) (zb_if (zb_eq r_1199 x10) (zq_L_lawOf_76 kk (zq_L_lawOf_41 kk x5 x6 x7 x8 n) x5 x6 x7 x8 x10 70 1 0 fm0_openSet_1200 fm0_state_1201 fm0_votes_1202 fm0_heard_1203 fm0_names_1204 fm0_name_1205 fm0_slot_1206 fm0_parts_1207 fm0_trouble_1208 fm0_troubled_1209 fm0_happened_1210 fm0_commitCount_1211 fm0_first_1212 fm0_waiting_1213 fm0_sent_1214 fm0_lostCount_1215 am491_1218 am492_1221 am493_1224 am494_1227 am495_1230 am496_1233 am497_1236 am498_1239 am499_1242 am4910_1245 am4911_1248 am4912_1251 am4913_1254 am4914_1257 am4915_1260 am4916_1263) (zq_L_lawOf_76 kk (zq_L_lawOf_41 kk x5 x6 x7 x8 n) x5 x6 x7 x8 x10 70 0 0 fm0_openSet_1200 fm0_state_1201 fm0_votes_1202 fm0_heard_1203 fm0_names_1204 fm0_name_1205 fm0_slot_1206 fm0_parts_1207 fm0_trouble_1208 fm0_troubled_1209 fm0_happened_1210 fm0_commitCount_1211 fm0_first_1212 fm0_waiting_1213 fm0_sent_1214 fm0_lostCount_1215 am491_1218 am492_1221 am493_1224 am494_1227 am495_1230 am496_1233 am497_1236 am498_1239 am499_1242 am4910_1245 am4911_1248 am4912_1251 am4913_1254 am4914_1257 am4915_1260 am4916_1263)))) fm0_openSet fm0_state fm0_votes fm0_heard fm0_names fm0_name fm0_slot fm0_parts fm0_trouble fm0_troubled fm0_happened fm0_commitCount fm0_first fm0_waiting fm0_sent fm0_lostCount am41 am42 am43 am44 am45 am46 am47 am48 am49 am410 am411 am412 am413 am414 am415 am416))
theorem zr_L_lawOf_41 {c : Nat} (hc : c ≤ 1023) {post : Int32 → St0 → Prop} {kk : Nat → Bool} {mc ms kc ks : Nat} (hk : ∀ {r_ : Nat} {R_ : Int32}, R_ = nI r_ → kk r_  = true → post R_ ()) {x5 x6 x7 x8 : Nat} {X_x5 : Int32} (e_x5 : X_x5 = zb_dv c x5) {X_x6 : Int32} (e_x6 : X_x6 = nI x6) {X_x7 : Int32} (e_x7 : X_x7 = nI x7) {X_x8 : Int32} (e_x8 : X_x8 = nI x8) : ∀ (n : Nat) {x9 x10 fm0_openSet fm0_state fm0_votes fm0_heard fm0_names fm0_name fm0_slot fm0_parts fm0_trouble fm0_troubled fm0_happened fm0_commitCount fm0_first fm0_waiting fm0_sent fm0_lostCount am41 am42 am43 am44 am45 am46 am47 am48 am49 am410 am411 am412 am413 am414 am415 am416 : Nat} {X_x9 X_x10 : Int32}, X_x9 = nI x9 → X_x10 = nI x10 → zq_L_lawOf_41 kk x5 x6 x7 x8 n x9 x10 fm0_openSet fm0_state fm0_votes fm0_heard fm0_names fm0_name fm0_slot fm0_parts fm0_trouble fm0_troubled fm0_happened fm0_commitCount fm0_first fm0_waiting fm0_sent fm0_lostCount am41 am42 am43 am44 am45 am46 am47 am48 am49 am410 am411 am412 am413 am414 am415 am416 = true → wL_lawOf_41 post mc ms X_x5 X_x6 X_x7 X_x8 kc ks n X_x9 X_x10 (nI fm0_openSet) (nI fm0_state) (nI fm0_votes) (nI fm0_heard) (nI fm0_names) (nI fm0_name) (nI fm0_slot) (nI fm0_parts) (nI fm0_trouble) (nI fm0_troubled) (nI fm0_happened) (nI fm0_commitCount) (nI fm0_first) (nI fm0_waiting) (nI fm0_sent) (nI fm0_lostCount) (zb_va c am41) (zb_ka am42) (zb_ka am43) (zb_ka am44) (zb_ka am45) (zb_va c am46) (zb_va c am47) (zb_ka am48) (zb_ka am49) (zb_va c am410) (zb_ka am411) (zb_ka am412) (zb_ka am413) (zb_ka am414) (zb_ka am415) (zb_ka am416) := by
  subst e_x5
  subst e_x6
  subst e_x7
  subst e_x8
  intro n
  induction n with
  | zero =>
    intro x9 x10 fm0_openSet fm0_state fm0_votes fm0_heard fm0_names fm0_name fm0_slot fm0_parts fm0_trouble fm0_troubled fm0_happened fm0_commitCount fm0_first fm0_waiting fm0_sent fm0_lostCount am41 am42 am43 am44 am45 am46 am47 am48 am49 am410 am411 am412 am413 am414 am415 am416 X_x9 X_x10 e_x9 e_x10 h
    exact absurd (show false = true from h) Bool.false_ne_true
  | succ n ih =>
    intro x9 x10 fm0_openSet fm0_state fm0_votes fm0_heard fm0_names fm0_name fm0_slot fm0_parts fm0_trouble fm0_troubled fm0_happened fm0_commitCount fm0_first fm0_waiting fm0_sent fm0_lostCount am41 am42 am43 am44 am45 am46 am47 am48 am49 am410 am411 am412 am413 am414 am415 am416 X_x9 X_x10 e_x9 e_x10 h
    subst e_x9
    subst e_x10
    refine zb_if_ok (zb_leP (rfl : (4 : Int32) = nI 4) rfl) h ?_ ?_
    · intro h
      refine zb_if_ok (zb_eqP rfl (rfl : (0 : Int32) = nI 0)) h ?_ ?_
      · intro h
        exact zr_L_lawOf_280 hc rfl rfl rfl rfl h hk
      · intro h
        refine zr_pX_begin hc h ?_
        intro r_925 R_ eR_ fm0_openSet_926 fm0_state_927 fm0_votes_928 fm0_heard_929 fm0_names_930 fm0_name_931 fm0_slot_932 fm0_parts_933 fm0_trouble_934 fm0_troubled_935 fm0_happened_936 fm0_commitCount_937 fm0_first_938 fm0_waiting_939 fm0_sent_940 fm0_lostCount_941 am1771_944 am1772_947 am1773_950 am1774_953 am1775_956 am1776_959 am1777_962 am1778_965 am1779_968 am17710_971 am17711_974 am17712_977 am17713_980 am17714_983 am17715_986 am17716_989 h
        subst eR_
        refine zb_if_ok (zb_eqP rfl zb_m200000) h ?_ ?_
        · intro h
          refine zr_pX_get hc (rfl : (0 : Int32) = nI 0) (rfl : (3 : Int32) = nI 3) h ?_
          intro r_991 R_ eR_ fm0_openSet_992 fm0_state_993 fm0_votes_994 fm0_heard_995 fm0_names_996 fm0_name_997 fm0_slot_998 fm0_parts_999 fm0_trouble_1000 fm0_troubled_1001 fm0_happened_1002 fm0_commitCount_1003 fm0_first_1004 fm0_waiting_1005 fm0_sent_1006 fm0_lostCount_1007 am1891_1010 am1892_1013 am1893_1016 am1894_1019 am1895_1022 am1896_1025 am1897_1028 am1898_1031 am1899_1034 am18910_1037 am18911_1040 am18912_1043 am18913_1046 am18914_1049 am18915_1052 am18916_1055 h
          subst eR_
          refine zb_if3_ok (zb_eq3P hc rfl (zb_kvP zb_m300000)) h ?_ ?_
          · intro h
            refine zr_pX_put hc (rfl : (3 : Int32) = nI 3) (rfl : (0 : Int32) = nI 0) (zb_kvP (rfl : (1 : Int32) = nI 1)) h ?_
            intro r_1057 R_ eR_ fm0_openSet_1058 fm0_state_1059 fm0_votes_1060 fm0_heard_1061 fm0_names_1062 fm0_name_1063 fm0_slot_1064 fm0_parts_1065 fm0_trouble_1066 fm0_troubled_1067 fm0_happened_1068 fm0_commitCount_1069 fm0_first_1070 fm0_waiting_1071 fm0_sent_1072 fm0_lostCount_1073 am2021_1076 am2022_1079 am2023_1082 am2024_1085 am2025_1088 am2026_1091 am2027_1094 am2028_1097 am2029_1100 am20210_1103 am20211_1106 am20212_1109 am20213_1112 am20214_1115 am20215_1118 am20216_1121 h
            subst eR_
            refine zb_if3_ok (zb_eq3P hc rfl (zb_kvP zb_m300000)) h ?_ ?_
            · intro h
              refine zr_pX_move hc (rfl : (1 : Int32) = nI 1) (rfl : (3 : Int32) = nI 3) (rfl : (0 : Int32) = nI 0) h ?_
              intro r_1123 R_ eR_ fm0_openSet_1124 fm0_state_1125 fm0_votes_1126 fm0_heard_1127 fm0_names_1128 fm0_name_1129 fm0_slot_1130 fm0_parts_1131 fm0_trouble_1132 fm0_troubled_1133 fm0_happened_1134 fm0_commitCount_1135 fm0_first_1136 fm0_waiting_1137 fm0_sent_1138 fm0_lostCount_1139 am2151_1142 am2152_1145 am2153_1148 am2154_1151 am2155_1154 am2156_1157 am2157_1160 am2158_1163 am2159_1166 am21510_1169 am21511_1172 am21512_1175 am21513_1178 am21514_1181 am21515_1184 am21516_1187 h
              subst eR_
              refine zb_if3_ok (zb_eq3P hc rfl (zb_kvP zb_m300000)) h ?_ ?_
              · intro h
                refine zr_pX_total hc h ?_
                intro r_1189 R_ eR_ h
                subst eR_
                refine zb_if3_ok (zb_eq3P hc rfl (zb_kvP (rfl : (0 : Int32) = nI 0))) h ?_ ?_
                · intro h
                  refine zr_pX_keys hc (rfl : (2 : Int32) = nI 2) h ?_
                  intro r_1191 R_ eR_ h
                  subst eR_
                  refine zb_if_ok (zb_eqP rfl (rfl : (448 : Int32) = nI 448)) h ?_ ?_
                  · intro h
                    refine zr_pX_written hc (rfl : (2 : Int32) = nI 2) h ?_
                    intro r_1193 R_ eR_ h
                    subst eR_
                    refine zb_if_ok (zb_eqP rfl (rfl : (448 : Int32) = nI 448)) h ?_ ?_
                    · intro h
                      refine zr_pX_holder hc (rfl : (11 : Int32) = nI 11) h ?_
                      intro r_1195 R_ eR_ h
                      subst eR_
                      refine zb_if_ok (zb_eqP rfl (rfl : (3 : Int32) = nI 3)) h ?_ ?_
                      · intro h
                        refine zr_pX_open hc h ?_
                        intro r_1197 R_ eR_ h
                        subst eR_
                        refine zb_if_ok (zb_eqP rfl (rfl : (15 : Int32) = nI 15)) h ?_ ?_
                        · intro h
                          exact zr_L_lawOf_281 hc rfl rfl rfl rfl (rfl : (1 : Int32) = nI 1) h hk
                        · intro h
                          exact zr_L_lawOf_280 hc rfl rfl rfl rfl h hk
                      · intro h
                        exact zr_L_lawOf_280 hc rfl rfl rfl rfl h hk
                    · intro h
                      exact zr_L_lawOf_280 hc rfl rfl rfl rfl h hk
                  · intro h
                    exact zr_L_lawOf_280 hc rfl rfl rfl rfl h hk
                · intro h
                  exact zr_L_lawOf_280 hc rfl rfl rfl rfl h hk
              · intro h
                exact zr_L_lawOf_280 hc rfl rfl rfl rfl h hk
            · intro h
              exact zr_L_lawOf_280 hc rfl rfl rfl rfl h hk
          · intro h
            exact zr_L_lawOf_280 hc rfl rfl rfl rfl h hk
        · intro h
          exact zr_L_lawOf_280 hc rfl rfl rfl rfl h hk
    · intro h
      refine zr_pX_begin hc h ?_
      intro r_1199 R_ eR_ fm0_openSet_1200 fm0_state_1201 fm0_votes_1202 fm0_heard_1203 fm0_names_1204 fm0_name_1205 fm0_slot_1206 fm0_parts_1207 fm0_trouble_1208 fm0_troubled_1209 fm0_happened_1210 fm0_commitCount_1211 fm0_first_1212 fm0_waiting_1213 fm0_sent_1214 fm0_lostCount_1215 am491_1218 am492_1221 am493_1224 am494_1227 am495_1230 am496_1233 am497_1236 am498_1239 am499_1242 am4910_1245 am4911_1248 am4912_1251 am4913_1254 am4914_1257 am4915_1260 am4916_1263 h
      subst eR_
      refine zb_if_ok (zb_eqP rfl (rfl : (0 : Int32) = nI 0)) h ?_ ?_
      · intro h
        refine ⟨70, ?_⟩
        exact zr_L_lawOf_76 hc hk (fun h => ih rfl rfl h) rfl rfl rfl rfl rfl _ (rfl : (0 : Int32) = nI 0) (rfl : (0 : Int32) = nI 0) h
      · intro h
        refine zb_if_ok (zb_eqP rfl rfl) h ?_ ?_
        · intro h
          refine ⟨70, ?_⟩
          exact zr_L_lawOf_76 hc hk (fun h => ih rfl rfl h) rfl rfl rfl rfl rfl _ (rfl : (1 : Int32) = nI 1) (rfl : (0 : Int32) = nI 0) h
        · intro h
          refine ⟨70, ?_⟩
          exact zr_L_lawOf_76 hc hk (fun h => ih rfl rfl h) rfl rfl rfl rfl rfl _ (rfl : (0 : Int32) = nI 0) (rfl : (0 : Int32) = nI 0) h
end
section
/-! the object that is made, and the runs -/
def zi_fill : Nat → Nat → Nat → Nat
  | 0, _, a => a
  | n + 1, x, a => zi_fill n (x + 1) (zb_wr a x 4294967295)
theorem zi_136 {post : St2 → Prop} {mc ms kc ks : Nat} {g1 g2 g3 g4 g5 g6 g7 g8 g9 g10 g11 g12 g13 g14 g15 g16 : Int32} {A1 A2 A3 A4 A5 A6 A7 A9 A10 A11 A12 A13 A14 A15 A16 : Nat → Int32} : ∀ (n x a : Nat), x + n = 12 → post (g1, g2, g3, g4, g5, g6, g7, g8, g9, g10, g11, g12, g13, g14, g15, g16, A1, A2, A3, A4, A5, A6, A7, zb_ka (zi_fill n x a), A9, A10, A11, A12, A13, A14, A15, A16) → wX_init_136 post mc ms kc ks g1 g2 g3 g4 g5 g6 g7 g8 g9 g10 g11 g12 g13 g14 g15 g16 (n + 1) (nI x) A1 A2 A3 A4 A5 A6 A7 (zb_ka a) A9 A10 A11 A12 A13 A14 A15 A16 := by
  intro n
  induction n with
  | zero =>
    intro x a hx hp
    have e : x = 12 := by omega
    subst e
    exact br_t (nI_le (Nat.le_refl 12) (by decide)) hp
  | succ n ih =>
    intro x a hx hp
    have e : upd (zb_ka a) (nI x).toNatClampNeg (-1) = zb_ka (zb_wr a x 4294967295) := by
      rw [nI_clamp (by omega)]
      exact zb_upnK zb_m1
    exact br_f (nI_ge (a := x) (b := 12) (by omega) (by decide)) ⟨vp_in_nI (by omega) (by decide), nm_r e (nm_r (nI_1 x) (ih (x + 1) _ (by omega) hp))⟩
theorem zi_c0 (i : Nat) : zb_cell 0 i = 0 := by
  show (0 >>> (64 * i)) % 18446744073709551616 = 0
  rw [Nat.zero_shiftRight]
theorem zi_k0 : zb_ka 0 = fun _ => (0 : Int32) := by
  funext i
  show nI (zb_cell 0 i) = 0
  rw [zi_c0]
  rfl
theorem zi_v0 (c : Nat) : zb_va c 0 = fun _ => (0 : Int32) := by
  funext i
  show zb_dv c (zb_cell 0 i) = 0
  rw [zi_c0, zb_dvI, Nat.zero_div, Nat.zero_mod, Nat.zero_mul]
  rfl
theorem zi_init {post : St2 → Prop} (c : Nat) (hp : post (nI 0, nI 0, nI 0, nI 0, nI 0, nI 0, nI 0, nI 0, nI 0, nI 0, nI 0, nI 0, nI 0, nI 0, nI 0, nI 0, zb_va c 0, zb_ka 0, zb_ka 0, zb_ka 0, zb_ka 0, zb_va c 0, zb_va c 0, zb_ka (zi_fill 12 0 0), zb_ka 0, zb_va c 0, zb_ka 0, zb_ka 0, zb_ka 0, zb_ka 0, zb_ka 0, zb_ka 0)) : wpX_init post 16 1396 (0, 0, 0, 0, 0, 0, 0, 0, 0, 0, 0, 0, 0, 0, 0, 0) := by
  rw [zi_k0, zi_v0] at hp
  unfold wpX_init
  refine ⟨by decide, by decide, by decide, by decide, by decide, by decide, by decide, by decide, by decide, by decide, by decide, by decide, by decide, by decide, by decide, by decide, by decide, by decide, by decide, by decide, by decide, by decide, by decide, by decide, by decide, by decide, by decide, by decide, by decide, by decide, by decide, by decide, 13, ?_⟩
  have t := zi_136 (mc := 16) (ms := 1396) (kc := 16) (ks := 1396) 12 0 0 (by omega) hp
  rw [zi_k0] at t
  exact t
noncomputable def zi_ok (t tr m : Nat) : Bool := zq_L_lawOf_41 (fun r => Nat.beq r 1) 4294967296 t tr m 70 1 0 0 0 0 0 0 0 0 0 0 0 0 0 0 0 0 0 0 0 0 0 0 0 0 (zi_fill 12 0 0) 0 0 0 0 0 0 0 0
end
section
/-! all 4 * 8 * 3 runs of the model, c free -/
theorem zi_r00 : ∀ m, m < 3 → zi_ok 0 0 m = true := by decide +kernel
theorem zi_r01 : ∀ m, m < 3 → zi_ok 0 1 m = true := by decide +kernel
theorem zi_r02 : ∀ m, m < 3 → zi_ok 0 2 m = true := by decide +kernel
theorem zi_r03 : ∀ m, m < 3 → zi_ok 0 3 m = true := by decide +kernel
theorem zi_r04 : ∀ m, m < 3 → zi_ok 0 4 m = true := by decide +kernel
theorem zi_r05 : ∀ m, m < 3 → zi_ok 0 5 m = true := by decide +kernel
theorem zi_r06 : ∀ m, m < 3 → zi_ok 0 6 m = true := by decide +kernel
theorem zi_r07 : ∀ m, m < 3 → zi_ok 0 7 m = true := by decide +kernel
theorem zi_r10 : ∀ m, m < 3 → zi_ok 1 0 m = true := by decide +kernel
theorem zi_r11 : ∀ m, m < 3 → zi_ok 1 1 m = true := by decide +kernel
theorem zi_r12 : ∀ m, m < 3 → zi_ok 1 2 m = true := by decide +kernel
theorem zi_r13 : ∀ m, m < 3 → zi_ok 1 3 m = true := by decide +kernel
theorem zi_r14 : ∀ m, m < 3 → zi_ok 1 4 m = true := by decide +kernel
theorem zi_r15 : ∀ m, m < 3 → zi_ok 1 5 m = true := by decide +kernel
theorem zi_r16 : ∀ m, m < 3 → zi_ok 1 6 m = true := by decide +kernel
theorem zi_r17 : ∀ m, m < 3 → zi_ok 1 7 m = true := by decide +kernel
theorem zi_r20 : ∀ m, m < 3 → zi_ok 2 0 m = true := by decide +kernel
theorem zi_r21 : ∀ m, m < 3 → zi_ok 2 1 m = true := by decide +kernel
theorem zi_r22 : ∀ m, m < 3 → zi_ok 2 2 m = true := by decide +kernel
theorem zi_r23 : ∀ m, m < 3 → zi_ok 2 3 m = true := by decide +kernel
theorem zi_r24 : ∀ m, m < 3 → zi_ok 2 4 m = true := by decide +kernel
theorem zi_r25 : ∀ m, m < 3 → zi_ok 2 5 m = true := by decide +kernel
theorem zi_r26 : ∀ m, m < 3 → zi_ok 2 6 m = true := by decide +kernel
theorem zi_r27 : ∀ m, m < 3 → zi_ok 2 7 m = true := by decide +kernel
theorem zi_r30 : ∀ m, m < 3 → zi_ok 3 0 m = true := by decide +kernel
theorem zi_r31 : ∀ m, m < 3 → zi_ok 3 1 m = true := by decide +kernel
theorem zi_r32 : ∀ m, m < 3 → zi_ok 3 2 m = true := by decide +kernel
theorem zi_r33 : ∀ m, m < 3 → zi_ok 3 3 m = true := by decide +kernel
theorem zi_r34 : ∀ m, m < 3 → zi_ok 3 4 m = true := by decide +kernel
theorem zi_r35 : ∀ m, m < 3 → zi_ok 3 5 m = true := by decide +kernel
theorem zi_r36 : ∀ m, m < 3 → zi_ok 3 6 m = true := by decide +kernel
theorem zi_r37 : ∀ m, m < 3 → zi_ok 3 7 m = true := by decide +kernel
theorem zi_lt4 {P : Nat → Prop} (h0 : P 0) (h1 : P 1) (h2 : P 2) (h3 : P 3) : ∀ n, n < 4 → P n
  | 0, _ => h0
  | 1, _ => h1
  | 2, _ => h2
  | 3, _ => h3
  | n + 4, h => absurd h (by omega)
theorem zi_lt8 {P : Nat → Prop} (h0 : P 0) (h1 : P 1) (h2 : P 2) (h3 : P 3) (h4 : P 4) (h5 : P 5) (h6 : P 6) (h7 : P 7) : ∀ n, n < 8 → P n
  | 0, _ => h0
  | 1, _ => h1
  | 2, _ => h2
  | 3, _ => h3
  | 4, _ => h4
  | 5, _ => h5
  | 6, _ => h6
  | 7, _ => h7
  | n + 8, h => absurd h (by omega)
theorem zi_r0 : ∀ tr, tr < 8 → ∀ m, m < 3 → zi_ok 0 tr m = true := zi_lt8 (P := fun tr => ∀ m, m < 3 → zi_ok 0 tr m = true) zi_r00 zi_r01 zi_r02 zi_r03 zi_r04 zi_r05 zi_r06 zi_r07
theorem zi_r1 : ∀ tr, tr < 8 → ∀ m, m < 3 → zi_ok 1 tr m = true := zi_lt8 (P := fun tr => ∀ m, m < 3 → zi_ok 1 tr m = true) zi_r10 zi_r11 zi_r12 zi_r13 zi_r14 zi_r15 zi_r16 zi_r17
theorem zi_r2 : ∀ tr, tr < 8 → ∀ m, m < 3 → zi_ok 2 tr m = true := zi_lt8 (P := fun tr => ∀ m, m < 3 → zi_ok 2 tr m = true) zi_r20 zi_r21 zi_r22 zi_r23 zi_r24 zi_r25 zi_r26 zi_r27
theorem zi_r3 : ∀ tr, tr < 8 → ∀ m, m < 3 → zi_ok 3 tr m = true := zi_lt8 (P := fun tr => ∀ m, m < 3 → zi_ok 3 tr m = true) zi_r30 zi_r31 zi_r32 zi_r33 zi_r34 zi_r35 zi_r36 zi_r37
theorem zi_run : ∀ t, t < 4 → ∀ tr, tr < 8 → ∀ m, m < 3 → zi_ok t tr m = true := zi_lt4 (P := fun t => ∀ tr, tr < 8 → ∀ m, m < 3 → zi_ok t tr m = true) zi_r0 zi_r1 zi_r2 zi_r3
end
section
theorem zi_lawOf (p0 p1 p2 p3 : Int32) : wpL_lawOf (fun r _ => r = 1) 17 1428 () p0 p1 p2 p3 := by
  obtain ⟨c, hc, ec⟩ := pk_andE p0 (m := 1023) 10 (by decide)
  obtain ⟨t, ht, et⟩ := pk_andE p1 (m := 3) 2 (by decide)
  obtain ⟨tr, htr, etr⟩ := pk_andE p2 (m := 7) 3 (by decide)
  obtain ⟨q, hq, eq⟩ := pk_andE p3 (m := 65535) 16 (by decide)
  have em : (p3 &&& 65535) - (p3 &&& 65535) / 3 * 3 = nI (q % 3) := by
    rw [eq]
    exact pk_rem (a := q) (d := 3) (by omega) (by decide) (by decide)
  have ed : p0 &&& 1023 = zb_dv c 4294967296 := by
    rw [ec, zb_dvI]
    show nI c = nI (0 + 1 * c)
    rw [Nat.zero_add, Nat.one_mul]
  have hc2 : c ≤ 1023 := by omega
  have hr := zi_run t (by omega) tr (by omega) (q % 3) (Nat.mod_lt _ (by decide))
  unfold wpL_lawOf
  refine ⟨by decide, by decide, 16, 1396, by decide, by decide, ?_⟩
  refine zi_init c ?_
  refine nm_r ed ?_
  refine nm_r et ?_
  refine nm_r etr ?_
  refine ⟨by decide, ?_⟩
  refine nm_r em ?_
  refine ⟨70, ?_⟩
  refine zr_L_lawOf_41 hc2 ?_ rfl rfl rfl rfl 70 (rfl : (1 : Int32) = nI 1) (rfl : (0 : Int32) = nI 0) hr
  intro r R eR h
  have h1 : r = 1 := zb_beq.mp h
  show R = 1
  rw [eR, h1]
  rfl
theorem zi_cell {post : Int32 → Prop} {L : Nat} {xs : Nat → Int32} (hL : L ≤ 4) (i : Nat) (hi : i < 4) {X : Int32} (hX : X = nI i) (h : ∀ r, post r) : wpL_cellAt post L xs () X := by
  unfold wpL_cellAt
  refine ⟨fun _ => h _, fun g => ⟨?_, h _⟩⟩
  rw [hX] at g ⊢
  refine vp_in_nI ?_ (by omega)
  rcases Nat.lt_or_ge i L with z | z
  · exact z
  · exact absurd (nI_le z (by omega)) g
theorem i_vc (xs : Nat → Int32) (L : Nat) (hL : L ≤ 4) : wpL_law (fun r => r = 1) L xs := by
  unfold wpL_law
  refine zi_cell hL 0 (by decide) rfl (fun r1 => ?_)
  refine zi_cell hL 1 (by decide) rfl (fun r2 => ?_)
  refine zi_cell hL 2 (by decide) rfl (fun r3 => ?_)
  refine zi_cell hL 3 (by decide) rfl (fun r4 => ?_)
  exact ⟨17, 1428, by decide, by decide, zi_lawOf r1 r2 r3 r4⟩
end
